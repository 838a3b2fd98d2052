section
section
variable {ct ir wp ra la sa pl od : Int32} {a1 a2 a3 a4 a5 a6 a7 a8 a9 a10 a11 a12 a13 a14 a15 a16 a17 a18 a19 a20 a21 a22 a23 a24 : Nat → Int32}
/-- the tokens that the law writes -/
def mt_good (t : Int32) : Prop := (t = 0 ∨ t = 1 ∨ t = 2 ∨ t = 3) ∨ (t = 12 ∨ t = 13 ∨ t = 14) ∨ t = 20
theorem mt_good4 {j : Nat} (h : j < 4) : mt_good (nI j) := by
  match j, h with
  | 0, _ => exact Or.inl (Or.inl rfl)
  | 1, _ => exact Or.inl (Or.inr (Or.inl rfl))
  | 2, _ => exact Or.inl (Or.inr (Or.inr (Or.inl rfl)))
  | 3, _ => exact Or.inl (Or.inr (Or.inr (Or.inr rfl)))
  | n + 4, h => exact absurd h (by omega)
theorem mt_bad {post : Int32 → Prop} {t : Int32} (ht : mt_good t) (h : post 0) : wpX_badToken post (ct, ir, wp, ra, la, sa, pl, od, a1, a2, a3, a4, a5, a6, a7, a8, a9, a10, a11, a12, a13, a14, a15, a16, a17, a18, a19, a20, a21, a22, a23, a24) t := by
  rcases ht with (rfl | rfl | rfl | rfl) | (rfl | rfl | rfl) | rfl
  · exact br_f (by decide) (br_f (by decide) (br_t (by decide) (br_f (by decide) h)))
  · exact br_f (by decide) (br_f (by decide) (br_t (by decide) (br_f (by decide) h)))
  · exact br_f (by decide) (br_f (by decide) (br_t (by decide) (br_f (by decide) h)))
  · exact br_f (by decide) (br_f (by decide) (br_t (by decide) (br_f (by decide) h)))
  · exact br_f (by decide) (br_t (by decide) (br_f (by decide) (br_f (by decide) (br_t (by decide) (br_f (by decide) h)))))
  · exact br_f (by decide) (br_t (by decide) (br_f (by decide) (br_f (by decide) (br_t (by decide) (br_f (by decide) h)))))
  · exact br_f (by decide) (br_t (by decide) (br_f (by decide) (br_f (by decide) (br_t (by decide) (br_f (by decide) h)))))
  · exact br_f (by decide) (br_t (by decide) (br_f (by decide) (br_t (by decide) (br_t (by decide) (br_t (by decide) (br_f (by decide) (br_t (by decide) h)))))))
/-- a token is written -/
theorem mt_token {post : Int32 → St2 → Prop} {t : Int32} (k : Nat) (hk : k < 24) (ht : mt_good t) (h : post (nI (k + 1)) (nI (k + 1), 0, wp, ra, la, sa, pl, od, upd a1 k t, a2, a3, a4, a5, a6, a7, a8, a9, a10, a11, a12, a13, a14, a15, a16, a17, a18, a19, a20, a21, a22, a23, a24)) : wpX_token post (nI k, ir, wp, ra, la, sa, pl, od, a1, a2, a3, a4, a5, a6, a7, a8, a9, a10, a11, a12, a13, a14, a15, a16, a17, a18, a19, a20, a21, a22, a23, a24) t := by
  unfold wpX_token
  refine mt_bad ht ?_
  refine br_t rfl (br_f ?_ ⟨vp_in_nI hk (by decide), nm_r (e' := upd a1 k t) ?_ (nm_r (nI_1 k) h)⟩)
  · intro z
    exact absurd ((nI_eq (b := 24) (by omega) (by decide)).mp z) (by omega)
  · rw [nI_clamp (by omega)]
/-- what the zeroing loop of a new atom leaves in the orders of bonds -/
def mt_z (q : Nat) : Nat → (Nat → Int32) → (Nat → Int32)
  | 0, a => a
  | i + 1, a => upd (upd (mt_z q i a) (7 * q + i) 0) (7 * i + q) 0
theorem mt_ix (q i : Nat) : (7 * nI q) + nI i = nI (7 * q + i) := by
  rw [show (7 : Int32) = nI 7 from rfl, pk_mul, nI_add]
theorem mt_47 {post : Int32 → St2 → Prop} {q : Nat} (hq : q < 7) (H : ∀ n, wX_readAtom_47 post (nI q) ct ir wp ra la sa pl od (n + 1) (nI 7) a1 a2 (mt_z q 7 a3) a4 a5 a6 a7 a8 a9 a10 a11 a12 a13 a14 a15 a16 a17 a18 a19 a20 a21 a22 a23 a24) : ∃ n, wX_readAtom_47 post (nI q) ct ir wp ra la sa pl od n 0 a1 a2 a3 a4 a5 a6 a7 a8 a9 a10 a11 a12 a13 a14 a15 a16 a17 a18 a19 a20 a21 a22 a23 a24 :=
  pk_loop (fun n i s => wX_readAtom_47 post (nI q) ct ir wp ra la sa pl od n (nI i) a1 a2 s a4 a5 a6 a7 a8 a9 a10 a11 a12 a13 a14 a15 a16 a17 a18 a19 a20 a21 a22 a23 a24) (fun i s => s = mt_z q i a3) 7 0 a3 (by omega) rfl
    (fun n s h => by subst h; exact H n)
    (fun n i s hi h hw => br_f (nI_ge (b := 7) hi (by decide)) ⟨by rw [mt_ix]; exact vp_in_nI (by omega) (by decide), nm_r (e' := upd s (7 * q + i) 0) (by rw [mt_ix, nI_clamp (by omega)]) ⟨by rw [mt_ix]; exact vp_in_nI (by omega) (by decide), nm_r (e' := upd (upd s (7 * q + i) 0) (7 * i + q) 0) (by rw [mt_ix, nI_clamp (by omega)]) (nm_r (nI_1 i) (hw _ (by rw [h]; rfl)))⟩⟩)
/-- a new atom with no last one ahead of it -/
theorem mt_atom0 {post : Int32 → St2 → Prop} {t : Int32} (q : Nat) (hq : q < 7) (h : post 1 (ct, ir, wp, nI (q + 1), nI q, 0, pl, od, a1, upd a2 q t, mt_z q 7 a3, upd a4 q 0, a5, a6, a7, a8, a9, a10, a11, a12, a13, a14, a15, a16, a17, a18, a19, a20, a21, a22, a23, a24)) : wpX_readAtom post (ct, ir, wp, nI q, -1, 0, pl, od, a1, a2, a3, a4, a5, a6, a7, a8, a9, a10, a11, a12, a13, a14, a15, a16, a17, a18, a19, a20, a21, a22, a23, a24) t := by
  refine br_f ?_ (br_t rfl (br_t (by decide) ?_))
  · intro z
    exact absurd ((nI_eq (b := 7) (by omega) (by decide)).mp z) (by omega)
  refine ⟨vp_in_nI hq (by decide), nm_r (e' := upd a2 q t) (by rw [nI_clamp (by omega)]) ⟨vp_in_nI hq (by decide), nm_r (e' := upd a4 q 0) (by rw [nI_clamp (by omega)]) ?_⟩⟩
  exact mt_47 hq (fun n => br_t (by decide) (br_t rfl (nm_r (nI_1 q) h)))
end
end
section
section
variable {ct ir wp ra la sa pl od : Int32} {a1 a2 a3 a4 a5 a6 a7 a8 a9 a10 a11 a12 a13 a14 a15 a16 a17 a18 a19 a20 a21 a22 a23 a24 : Nat → Int32}
/-- whether atoms 0 and 1 can be joined -/
theorem mt_can {post : Int32 → Prop} {o : Int32} (H1 : ¬ 4 - a2 0 < a4 0 + o → ¬ 4 - a2 1 < a4 1 + o → post 1) (H0 : (4 - a2 0 < a4 0 + o ∨ 4 - a2 1 < a4 1 + o) → post 0) : wpX_canJoin post (ct, ir, wp, ra, la, sa, pl, od, a1, a2, a3, a4, a5, a6, a7, a8, a9, a10, a11, a12, a13, a14, a15, a16, a17, a18, a19, a20, a21, a22, a23, a24) 0 1 o := by
  refine ⟨pk_in 0 7 (by decide), pk_in 0 7 (by decide), ?_⟩
  refine br_c (fun z => ?_) (fun z => ?_)
  · have z' : 4 - a2 0 < a4 0 + o := z
    exact br_t rfl (H0 (Or.inl z'))
  · have z' : ¬ 4 - a2 0 < a4 0 + o := z
    refine br_f (by decide) ⟨pk_in 1 7 (by decide), pk_in 1 7 (by decide), ?_⟩
    refine br_c (fun y => ?_) (fun y => ?_)
    · have y' : 4 - a2 1 < a4 1 + o := y
      exact H0 (Or.inr y')
    · have y' : ¬ 4 - a2 1 < a4 1 + o := y
      exact H1 z' y'
/-- atoms 0 and 1 are joined -/
theorem mt_join {post : St2 → Prop} {o : Int32} (h : ∀ b4 : Nat → Int32, post (ct, ir, wp, ra, la, sa, pl, od, a1, a2, upd (upd a3 1 o) 7 o, b4, a5, a6, a7, a8, a9, a10, a11, a12, a13, a14, a15, a16, a17, a18, a19, a20, a21, a22, a23, a24)) : wpX_joinAtoms post (ct, ir, wp, ra, la, sa, pl, od, a1, a2, a3, a4, a5, a6, a7, a8, a9, a10, a11, a12, a13, a14, a15, a16, a17, a18, a19, a20, a21, a22, a23, a24) 0 1 o :=
  ⟨pk_in 1 49 (by decide), nm_r (e' := upd a3 1 o) rfl ⟨pk_in 7 49 (by decide), nm_r (e' := upd (upd a3 1 o) 7 o) rfl ⟨pk_in 0 7 (by decide), pk_in 0 7 (by decide), nm_e ⟨pk_in 1 7 (by decide), pk_in 1 7 (by decide), nm_e (h _)⟩⟩⟩⟩
/-- the second atom behind a sign of order o -/
theorem mt_atom1 {post : Int32 → St2 → Prop} {t u o : Int32} (ho : ¬ o ≤ 0) (h2 : a2 0 = u) (h4 : a4 0 = 0)
    (H1 : ¬ 4 - u < o → ¬ 4 - t < o → ∀ b4 : Nat → Int32, post 1 (ct, ir, wp, 2, 1, 0, pl, od, a1, upd a2 1 t, upd (upd (mt_z 1 7 a3) 1 o) 7 o, b4, a5, a6, a7, a8, a9, a10, a11, a12, a13, a14, a15, a16, a17, a18, a19, a20, a21, a22, a23, a24))
    (H0 : (4 - u < o ∨ 4 - t < o) → post 0 (ct, ir, wp, 1, 0, o, pl, od, a1, upd a2 1 t, mt_z 1 7 a3, upd a4 1 0, a5, a6, a7, a8, a9, a10, a11, a12, a13, a14, a15, a16, a17, a18, a19, a20, a21, a22, a23, a24)) : wpX_readAtom post (ct, ir, wp, 1, 0, o, pl, od, a1, a2, a3, a4, a5, a6, a7, a8, a9, a10, a11, a12, a13, a14, a15, a16, a17, a18, a19, a20, a21, a22, a23, a24) t := by
  have e : ∀ x : Int32, (0 : Int32) + x = x := fun x => Int32.zero_add x
  have g0 : (4 - upd a2 1 t 0 < upd a4 1 0 0 + o) = (4 - u < o) := by
    rw [pk_un (by decide), pk_un (by decide), h2, h4, e]
  have g1 : (4 - upd a2 1 t 1 < upd a4 1 0 1 + o) = (4 - t < o) := by
    rw [pk_us, pk_us, e]
  refine br_f (by decide) (br_f (by decide) ?_)
  refine ⟨pk_in 1 7 (by decide), nm_r (e' := upd a2 1 t) rfl ⟨pk_in 1 7 (by decide), nm_r (e' := upd a4 1 0) rfl ?_⟩⟩
  refine mt_47 (q := 1) (by decide) (fun n => br_t (by decide) (br_f (by decide) (br_f ho ?_)))
  unfold wX_readAtom_106
  refine mt_can (fun z y => ?_) (fun z => ?_)
  · rw [g0] at z
    rw [g1] at y
    refine br_f (by decide) (mt_join (fun b4 => ?_))
    exact nm_r (e' := 2) (by decide) (H1 z y b4)
  · rw [g0, g1] at z
    exact br_t rfl (H0 z)
/-- a mark's first time -/
theorem mt_mark0 {post : Int32 → St2 → Prop} {p : Int32} (hp : p = 0) (h6 : a6 0 = -1) (h : post 1 (ct, ir, wp, ra, 0, 0, pl, od, a1, a2, a3, a4, a5, upd a6 0 0, upd a7 0 0, a8, a9, a10, a11, a12, a13, a14, a15, a16, a17, a18, a19, a20, a21, a22, a23, a24)) : wpX_readMark post (ct, ir, wp, ra, 0, 0, pl, od, a1, a2, a3, a4, a5, a6, a7, a8, a9, a10, a11, a12, a13, a14, a15, a16, a17, a18, a19, a20, a21, a22, a23, a24) p := by
  subst hp
  exact br_f (by decide) ⟨pk_in 0 3 (by decide), br_t h6 ⟨pk_in 0 3 (by decide), nm_r (e' := upd a6 0 0) rfl ⟨pk_in 0 3 (by decide), nm_r (e' := upd a7 0 0) rfl h⟩⟩⟩
/-- its second time, with a bond there already -/
theorem mt_mark1 {post : Int32 → St2 → Prop} {p : Int32} (hp : p = 0) (h6 : a6 0 = 0) (h3 : 0 < a3 1) (h : post 0 (ct, ir, wp, ra, 1, 0, pl, od, a1, a2, a3, a4, a5, a6, a7, a8, a9, a10, a11, a12, a13, a14, a15, a16, a17, a18, a19, a20, a21, a22, a23, a24)) : wpX_readMark post (ct, ir, wp, ra, 1, 0, pl, od, a1, a2, a3, a4, a5, a6, a7, a8, a9, a10, a11, a12, a13, a14, a15, a16, a17, a18, a19, a20, a21, a22, a23, a24) p := by
  subst hp
  refine br_f (by decide) ⟨pk_in 0 3 (by decide), br_f (fun z => ?_) ⟨pk_in 0 3 (by decide), nm_r (e' := 0) h6 (br_t (by decide) ?_)⟩⟩
  · have z' : a6 0 = -1 := z
    rw [h6] at z'
    exact absurd z' (by decide)
  · exact br_f (by decide) ⟨pk_in 1 49 (by decide), br_t h3 h⟩
/-- its second time, with no bond yet: order 1 -/
theorem mt_mark2 {post : Int32 → St2 → Prop} {p : Int32} (hp : p = 0) (h6 : a6 0 = 0) (h7 : a7 0 = 0) (h3 : a3 1 = 0) (hu : ¬ 4 - a2 0 < a4 0 + 1) (hv : ¬ 4 - a2 1 < a4 1 + 1) (h : ∀ b4 : Nat → Int32, post 1 (ct, ir, wp, ra, 1, 0, pl, od, a1, a2, upd (upd a3 1 1) 7 1, b4, a5, upd a6 0 (-1), a7, a8, a9, a10, a11, a12, a13, a14, a15, a16, a17, a18, a19, a20, a21, a22, a23, a24)) : wpX_readMark post (ct, ir, wp, ra, 1, 0, pl, od, a1, a2, a3, a4, a5, a6, a7, a8, a9, a10, a11, a12, a13, a14, a15, a16, a17, a18, a19, a20, a21, a22, a23, a24) p := by
  subst hp
  refine br_f (by decide) ⟨pk_in 0 3 (by decide), br_f (fun z => ?_) ⟨pk_in 0 3 (by decide), nm_r (e' := 0) h6 (br_t (by decide) ?_)⟩⟩
  · have z' : a6 0 = -1 := z
    rw [h6] at z'
    exact absurd z' (by decide)
  refine br_f (by decide) ⟨pk_in 1 49 (by decide), br_f (fun z => ?_) (br_t rfl (br_t (by decide) ⟨pk_in 0 3 (by decide), br_t ?_ ?_⟩))⟩
  · have z' : 0 < a3 1 := z
    rw [h3] at z'
    exact absurd z' (by decide)
  · show a7 0 ≤ 0
    rw [h7]
    decide
  unfold wX_readMark_153
  refine mt_can (fun _ _ => ?_) (fun z => ?_)
  · exact br_f (by decide) (mt_join (fun b4 => ⟨pk_in 0 3 (by decide), nm_r (e' := upd a6 0 (-1)) rfl (h b4)⟩))
  · exact absurd z (fun z => z.elim hu hv)
end
end
section
section
variable {ct ir wp ra la sa pl od : Int32} {a1 a2 a3 a4 a5 a6 a7 a8 a9 a10 a11 a12 a13 a14 a15 a16 a17 a18 a19 a20 a21 a22 a23 a24 : Nat → Int32}
def mt_m (a : Nat → Int32) : Nat → Int32 := upd (upd (upd a 0 (-1)) 1 (-1)) 2 (-1)
/-- the first two tokens: an atom and mark 0 -/
theorem mt_pre {post : St2 → Prop} {t : Int32} (n : Nat) (h0 : a1 0 = t) (h1 : a1 1 = 20) (ht : ¬ 3 < t) (c0 : ¬ ct ≤ 0) (c1 : ¬ ct ≤ 1)
    (H : ∀ b2 b3 b4 b6 b7 : Nat → Int32, b2 0 = t → b4 0 = 0 → b6 0 = 0 → b6 1 = -1 → b6 2 = -1 → b7 0 = 0 → wX_readAll_56 post n 2 ct 0 (-4) 1 0 0 0 od a1 b2 b3 b4 a5 b6 b7 a8 a9 a10 a11 a12 a13 a14 a15 a16 a17 a18 a19 a20 a21 a22 a23 a24) : wpX_readAll post (ct, 0, wp, ra, la, sa, pl, od, a1, a2, a3, a4, a5, a6, a7, a8, a9, a10, a11, a12, a13, a14, a15, a16, a17, a18, a19, a20, a21, a22, a23, a24) := by
  refine br_t rfl ⟨4, ?_⟩
  refine br_f (by decide) ⟨pk_in 0 3 (by decide), nm_r (e' := upd a6 0 (-1)) rfl (nm_r (e' := 1) (by decide) ?_)⟩
  refine br_f (by decide) ⟨pk_in 1 3 (by decide), nm_r (e' := upd (upd a6 0 (-1)) 1 (-1)) rfl (nm_r (e' := 2) (by decide) ?_)⟩
  refine br_f (by decide) ⟨pk_in 2 3 (by decide), nm_r (e' := mt_m a6) rfl (nm_r (e' := 3) (by decide) ?_)⟩
  refine br_t (by decide) ⟨n + 1 + 1, ?_⟩
  refine br_f c0 (br_t rfl ?_)
  refine ⟨pk_in 0 24 (by decide), nm_r (e' := t) h0 (br_f ht ?_)⟩
  refine mt_atom0 0 (by decide) ⟨rfl, br_f (by decide) (nm_r (e' := 1) (by decide) ?_)⟩
  refine br_f c1 (br_t rfl ?_)
  refine ⟨pk_in 1 24 (by decide), nm_r (e' := 20) h1 (br_t (by decide) (br_f (by decide) (br_f (by decide) (br_f (by decide) ?_))))⟩
  refine mt_mark0 (by decide) rfl ⟨rfl, br_f (by decide) (nm_r (e' := 2) (by decide) ?_)⟩
  exact H _ _ _ _ _ rfl rfl rfl rfl rfl rfl
/-- then APART and an atom -/
theorem mt_one {post : St2 → Prop} {t u : Int32} (n : Nat) (h2 : a1 2 = 14) (h3 : a1 3 = u) (hu : ¬ 3 < u) (c2 : ¬ ct ≤ 2) (c3 : ¬ ct ≤ 3) (k2 : a2 0 = t) (k4 : a4 0 = 0)
    (H : ∀ b2 b3 b4 : Nat → Int32, b2 0 = t → b2 1 = u → b3 1 = 0 → b4 0 = 0 → b4 1 = 0 → wX_readAll_56 post n 4 ct ir (-4) 2 1 0 0 od a1 b2 b3 b4 a5 a6 a7 a8 a9 a10 a11 a12 a13 a14 a15 a16 a17 a18 a19 a20 a21 a22 a23 a24) : wX_readAll_56 post (n + 1 + 1) 2 ct ir (-4) 1 0 0 0 od a1 a2 a3 a4 a5 a6 a7 a8 a9 a10 a11 a12 a13 a14 a15 a16 a17 a18 a19 a20 a21 a22 a23 a24 := by
  refine br_f c2 (br_t rfl ⟨pk_in 2 24 (by decide), nm_r (e' := 14) h2 ?_⟩)
  refine br_t (by decide) (br_f (by decide) (br_f (by decide) (br_t (by decide) (br_f (by decide) (br_t (by decide) (br_t rfl (br_t rfl ?_)))))))
  refine br_f (by decide) (nm_r (e' := 3) (by decide) ?_)
  refine br_f c3 (br_t rfl ⟨pk_in 3 24 (by decide), nm_r (e' := u) h3 (br_f hu ?_)⟩)
  refine mt_atom0 1 (by decide) ⟨rfl, br_f (by decide) (nm_r (e' := 4) (by decide) ?_)⟩
  exact H _ _ _ k2 rfl rfl k4 rfl
/-- then a sign of order o and an atom -/
theorem mt_two {post : St2 → Prop} {t u o : Int32} (n : Nat) (ho : o = 2 ∨ o = 3) (h2 : a1 2 = 10 + o) (h3 : a1 3 = u) (hu : ¬ 3 < u) (c2 : ¬ ct ≤ 2) (c3 : ¬ ct ≤ 3) (k2 : a2 0 = t) (k4 : a4 0 = 0)
    (H1 : ¬ 4 - t < o → ¬ 4 - u < o → ∀ b2 b3 b4 : Nat → Int32, 0 < b3 1 → wX_readAll_56 post n 4 ct ir (-4) 2 1 0 0 od a1 b2 b3 b4 a5 a6 a7 a8 a9 a10 a11 a12 a13 a14 a15 a16 a17 a18 a19 a20 a21 a22 a23 a24)
    (H0 : (4 - t < o ∨ 4 - u < o) → ∀ b2 b3 b4 : Nat → Int32, wX_readAll_56 post n 4 ct ir 3 1 0 o 0 od a1 b2 b3 b4 a5 a6 a7 a8 a9 a10 a11 a12 a13 a14 a15 a16 a17 a18 a19 a20 a21 a22 a23 a24) : wX_readAll_56 post (n + 1 + 1) 2 ct ir (-4) 1 0 0 0 od a1 a2 a3 a4 a5 a6 a7 a8 a9 a10 a11 a12 a13 a14 a15 a16 a17 a18 a19 a20 a21 a22 a23 a24 := by
  have K : ∀ b : Int32, b = 2 ∨ b = 3 → b = o → wX_readAll_56 post (n + 1) 3 ct ir (-4) 1 0 b 0 od a1 a2 a3 a4 a5 a6 a7 a8 a9 a10 a11 a12 a13 a14 a15 a16 a17 a18 a19 a20 a21 a22 a23 a24 := by
    intro b hb e
    subst e
    refine br_f c3 (br_t rfl ⟨pk_in 3 24 (by decide), nm_r (e' := u) h3 (br_f hu ?_)⟩)
    refine mt_atom1 (by rcases hb with rfl | rfl <;> decide) k2 k4 (fun z y b4 => ⟨rfl, br_f (by decide) (nm_r (e' := 4) (by decide) ?_)⟩) (fun z => ⟨rfl, br_t rfl (nm_r (e' := 4) (by decide) ?_)⟩)
    · refine H1 z y _ _ _ ?_
      show 0 < b
      rcases hb with rfl | rfl <;> decide
    · exact H0 z _ _ _
  rcases ho with rfl | rfl
  · refine br_f c2 (br_t rfl ⟨pk_in 2 24 (by decide), nm_r (e' := 12) (h2.trans (by decide)) ?_⟩)
    refine br_t (by decide) (br_f (by decide) (br_f (by decide) (br_t (by decide) (br_f (by decide) (br_t (by decide) (br_f (by decide) (br_t rfl ?_)))))))
    exact br_f (by decide) (nm_r (e' := 3) (by decide) (K 2 (Or.inl rfl) rfl))
  · refine br_f c2 (br_t rfl ⟨pk_in 2 24 (by decide), nm_r (e' := 13) (h2.trans (by decide)) ?_⟩)
    refine br_t (by decide) (br_f (by decide) (br_f (by decide) (br_t (by decide) (br_f (by decide) (br_t (by decide) (br_f (by decide) (br_f (by decide) ?_)))))))
    exact br_f (by decide) (nm_r (e' := 3) (by decide) (K 3 (Or.inr rfl) rfl))
/-- a wrong place was found -/
theorem mt_end3 {post : St2 → Prop} {x : Int32} (n : Nat) (hw : ¬ wp = -4) (h : post (ct, 1, wp, ra, la, sa, pl, od, a1, a2, a3, a4, a5, a6, a7, a8, a9, a10, a11, a12, a13, a14, a15, a16, a17, a18, a19, a20, a21, a22, a23, a24)) : wX_readAll_56 post (n + 1) x ct ir wp ra la sa pl od a1 a2 a3 a4 a5 a6 a7 a8 a9 a10 a11 a12 a13 a14 a15 a16 a17 a18 a19 a20 a21 a22 a23 a24 :=
  br_c (fun _ => br_f hw h) (fun _ => br_f hw (br_f hw h))
/-- four tokens and the mark still waits -/
theorem mt_end4 {post : St2 → Prop} (n : Nat) (k6 : a6 0 = 0) (h : post (4, 1, 4, ra, la, sa, pl, od, a1, a2, a3, a4, a5, a6, a7, a8, a9, a10, a11, a12, a13, a14, a15, a16, a17, a18, a19, a20, a21, a22, a23, a24)) : wX_readAll_56 post (n + 1) 4 4 ir (-4) ra la sa pl od a1 a2 a3 a4 a5 a6 a7 a8 a9 a10 a11 a12 a13 a14 a15 a16 a17 a18 a19 a20 a21 a22 a23 a24 := by
  refine br_t (by decide) (br_t rfl ?_)
  refine br_f ?_ (br_f (by decide) (br_t rfl h))
  rw [k6]
  decide
/-- the fifth token closes the ring of order 1: all is right -/
theorem mt_end5 {post : St2 → Prop} (n : Nat) (h4 : a1 4 = 20) (k6 : a6 0 = 0) (k61 : a6 1 = -1) (k62 : a6 2 = -1) (k7 : a7 0 = 0) (k3 : a3 1 = 0) (hu : ¬ 4 - a2 0 < a4 0 + 1) (hv : ¬ 4 - a2 1 < a4 1 + 1)
    (h : ∀ b3 b4 b6 : Nat → Int32, b3 1 = 1 → b3 7 = 1 → post (5, 1, -4, ra, 1, 0, 0, od, a1, a2, b3, b4, a5, b6, a7, a8, a9, a10, a11, a12, a13, a14, a15, a16, a17, a18, a19, a20, a21, a22, a23, a24)) : wX_readAll_56 post (n + 1 + 1) 4 5 ir (-4) ra 1 0 0 od a1 a2 a3 a4 a5 a6 a7 a8 a9 a10 a11 a12 a13 a14 a15 a16 a17 a18 a19 a20 a21 a22 a23 a24 := by
  refine br_f (by decide) (br_t rfl ⟨pk_in 4 24 (by decide), nm_r (e' := 20) h4 ?_⟩)
  refine br_t (by decide) (br_f (by decide) (br_f (by decide) (br_f (by decide) ?_)))
  refine mt_mark2 (by decide) k6 k7 k3 hu hv (fun b4 => ⟨rfl, br_f (by decide) (nm_r (e' := 5) (by decide) ?_)⟩)
  refine br_t (by decide) (br_t rfl ?_)
  refine br_t rfl (br_t k61 (br_t k62 ?_))
  refine br_t rfl (br_t rfl (br_t rfl (br_f (by decide) ⟨pk_in 4 24 (by decide), br_f ?_ (br_f (by decide) (h _ _ _ rfl rfl))⟩)))
  intro z
  have z' : a1 4 = 14 := z
  rw [h4] at z'
  exact absurd z' (by decide)
/-- the fifth token meets a bond -/
theorem mt_end6 {post : St2 → Prop} (n : Nat) (h4 : a1 4 = 20) (k6 : a6 0 = 0) (k3 : 0 < a3 1)
    (h : post (5, 1, 4, ra, 1, 0, 0, od, a1, a2, a3, a4, a5, a6, a7, a8, a9, a10, a11, a12, a13, a14, a15, a16, a17, a18, a19, a20, a21, a22, a23, a24)) : wX_readAll_56 post (n + 1 + 1) 4 5 ir (-4) ra 1 0 0 od a1 a2 a3 a4 a5 a6 a7 a8 a9 a10 a11 a12 a13 a14 a15 a16 a17 a18 a19 a20 a21 a22 a23 a24 := by
  refine br_f (by decide) (br_t rfl ⟨pk_in 4 24 (by decide), nm_r (e' := 20) h4 ?_⟩)
  refine br_t (by decide) (br_f (by decide) (br_f (by decide) (br_f (by decide) ?_)))
  refine mt_mark1 (by decide) k6 k3 ⟨rfl, br_t rfl (nm_r (e' := 5) (by decide) ?_)⟩
  exact mt_end3 n (by decide) h
end
end
section
section
variable {ct ir wp ra la sa pl od : Int32} {a1 a2 a3 a4 a5 a6 a7 a8 a9 a10 a11 a12 a13 a14 a15 a16 a17 a18 a19 a20 a21 a22 a23 a24 : Nat → Int32}
theorem mt_le0 {t x o : Int32} {a b : Int32} (h : ¬ 4 - t < o) (ea : a = t) (eb : b = 0) : ¬ 4 - a < b + o := by
  rw [ea, eb, Int32.zero_add]
  exact h
/-- order 1, four tokens -/
theorem mt_one4 {post : Int32 → St2 → Prop} {t u : Int32} (h0 : a1 0 = t) (h1 : a1 1 = 20) (h2 : a1 2 = 14) (h3 : a1 3 = u) (ht : ¬ 3 < t) (hu : ¬ 3 < u)
    (H : ∀ (ra la sa : Int32) (b2 b3 b4 b6 b7 : Nat → Int32), post 4 (4, 1, 4, ra, la, sa, 0, od, a1, b2, b3, b4, a5, b6, b7, a8, a9, a10, a11, a12, a13, a14, a15, a16, a17, a18, a19, a20, a21, a22, a23, a24)) : wpX_wrongAt post (4, 0, wp, ra, la, sa, pl, od, a1, a2, a3, a4, a5, a6, a7, a8, a9, a10, a11, a12, a13, a14, a15, a16, a17, a18, a19, a20, a21, a22, a23, a24) := by
  unfold wpX_wrongAt
  refine mt_pre 3 h0 h1 ht (by decide) (by decide) (fun b2 b3 b4 b6 b7 e2 e4 e6 _ _ e7 => ?_)
  refine mt_one 1 h2 h3 hu (by decide) (by decide) e2 e4 (fun d2 d3 d4 _ _ _ _ _ => ?_)
  exact mt_end4 0 e6 (H _ _ _ _ _ _ _ _)
/-- order 1, five tokens -/
theorem mt_one5 {post : Int32 → St2 → Prop} {t u : Int32} (h0 : a1 0 = t) (h1 : a1 1 = 20) (h2 : a1 2 = 14) (h3 : a1 3 = u) (h4 : a1 4 = 20) (ht : ¬ 3 < t) (hu : ¬ 3 < u) (f0 : ¬ 4 - t < 1) (f1 : ¬ 4 - u < 1)
    (H : ∀ (la sa : Int32) (b2 b3 b4 b6 b7 : Nat → Int32), b3 1 = 1 → b3 7 = 1 → post (-4) (5, 1, -4, 2, la, sa, 0, od, a1, b2, b3, b4, a5, b6, b7, a8, a9, a10, a11, a12, a13, a14, a15, a16, a17, a18, a19, a20, a21, a22, a23, a24)) : wpX_wrongAt post (5, 0, wp, ra, la, sa, pl, od, a1, a2, a3, a4, a5, a6, a7, a8, a9, a10, a11, a12, a13, a14, a15, a16, a17, a18, a19, a20, a21, a22, a23, a24) := by
  unfold wpX_wrongAt
  refine mt_pre 4 h0 h1 ht (by decide) (by decide) (fun b2 b3 b4 b6 b7 e2 e4 e6 e61 e62 e7 => ?_)
  refine mt_one 2 h2 h3 hu (by decide) (by decide) e2 e4 (fun d2 d3 d4 g20 g21 g3 g40 g41 => ?_)
  refine mt_end5 0 h4 e6 e61 e62 e7 g3 (mt_le0 (x := 0) f0 g20 g40) (mt_le0 (x := 0) f1 g21 g41) (fun c3 c4 c6 y1 y7 => ?_)
  exact H _ _ _ _ _ _ _ y1 y7
/-- order 2 or 3, four tokens -/
theorem mt_two4 {post : Int32 → St2 → Prop} {t u o : Int32} (ho : o = 2 ∨ o = 3) (h0 : a1 0 = t) (h1 : a1 1 = 20) (h2 : a1 2 = 10 + o) (h3 : a1 3 = u) (ht : ¬ 3 < t) (hu : ¬ 3 < u)
    (H1 : ¬ 4 - t < o → ¬ 4 - u < o → ∀ (ra la sa : Int32) (b2 b3 b4 b6 b7 : Nat → Int32), post 4 (4, 1, 4, ra, la, sa, 0, od, a1, b2, b3, b4, a5, b6, b7, a8, a9, a10, a11, a12, a13, a14, a15, a16, a17, a18, a19, a20, a21, a22, a23, a24))
    (H0 : (4 - t < o ∨ 4 - u < o) → ∀ (ra la sa : Int32) (b2 b3 b4 b6 b7 : Nat → Int32), post 3 (4, 1, 3, ra, la, sa, 0, od, a1, b2, b3, b4, a5, b6, b7, a8, a9, a10, a11, a12, a13, a14, a15, a16, a17, a18, a19, a20, a21, a22, a23, a24)) : wpX_wrongAt post (4, 0, wp, ra, la, sa, pl, od, a1, a2, a3, a4, a5, a6, a7, a8, a9, a10, a11, a12, a13, a14, a15, a16, a17, a18, a19, a20, a21, a22, a23, a24) := by
  unfold wpX_wrongAt
  refine mt_pre 3 h0 h1 ht (by decide) (by decide) (fun b2 b3 b4 b6 b7 e2 e4 e6 _ _ e7 => ?_)
  refine mt_two 1 ho h2 h3 hu (by decide) (by decide) e2 e4 (fun z y d2 d3 d4 _ => ?_) (fun z d2 d3 d4 => ?_)
  · exact mt_end4 0 e6 (H1 z y _ _ _ _ _ _ _ _)
  · exact mt_end3 0 (by decide) (H0 z _ _ _ _ _ _ _ _)
/-- order 2 or 3, five tokens -/
theorem mt_two5 {post : Int32 → St2 → Prop} {t u o : Int32} (ho : o = 2 ∨ o = 3) (h0 : a1 0 = t) (h1 : a1 1 = 20) (h2 : a1 2 = 10 + o) (h3 : a1 3 = u) (h4 : a1 4 = 20) (ht : ¬ 3 < t) (hu : ¬ 3 < u)
    (H1 : ¬ 4 - t < o → ¬ 4 - u < o → ∀ (ra la sa : Int32) (b2 b3 b4 b6 b7 : Nat → Int32), post 4 (5, 1, 4, ra, la, sa, 0, od, a1, b2, b3, b4, a5, b6, b7, a8, a9, a10, a11, a12, a13, a14, a15, a16, a17, a18, a19, a20, a21, a22, a23, a24))
    (H0 : (4 - t < o ∨ 4 - u < o) → ∀ (ra la sa : Int32) (b2 b3 b4 b6 b7 : Nat → Int32), post 3 (5, 1, 3, ra, la, sa, 0, od, a1, b2, b3, b4, a5, b6, b7, a8, a9, a10, a11, a12, a13, a14, a15, a16, a17, a18, a19, a20, a21, a22, a23, a24)) : wpX_wrongAt post (5, 0, wp, ra, la, sa, pl, od, a1, a2, a3, a4, a5, a6, a7, a8, a9, a10, a11, a12, a13, a14, a15, a16, a17, a18, a19, a20, a21, a22, a23, a24) := by
  unfold wpX_wrongAt
  refine mt_pre 4 h0 h1 ht (by decide) (by decide) (fun b2 b3 b4 b6 b7 e2 e4 e6 _ _ e7 => ?_)
  refine mt_two 2 ho h2 h3 hu (by decide) (by decide) e2 e4 (fun z y d2 d3 d4 g3 => ?_) (fun z d2 d3 d4 => ?_)
  · exact mt_end6 0 h4 e6 g3 (H1 z y _ _ _ _ _ _ _ _)
  · exact mt_end3 1 (by decide) (H0 z _ _ _ _ _ _ _ _)
end
end
section
section
variable {ct ir wp ra la sa pl od : Int32} {a1 a2 a3 a4 a5 a6 a7 a8 a9 a10 a11 a12 a13 a14 a15 a16 a17 a18 a19 a20 a21 a22 a23 a24 : Nat → Int32}
theorem mt_slot {post : Int32 → Prop} {x : Int32} (hx : x = 0 ∨ x = 1) (h : post 0) : wpX_badSlot post (ct, ir, wp, ra, la, sa, pl, od, a1, a2, a3, a4, a5, a6, a7, a8, a9, a10, a11, a12, a13, a14, a15, a16, a17, a18, a19, a20, a21, a22, a23, a24) x := by
  rcases hx with rfl | rfl
  · exact br_f (by decide) (br_t (by decide) h)
  · exact br_f (by decide) (br_t (by decide) h)
theorem mt_xin {x : Int32} (hx : x = 0 ∨ x = 1) : vp_in x 2 := by
  rcases hx with rfl | rfl
  · exact pk_in 0 2 (by decide)
  · exact pk_in 1 2 (by decide)
/-- read of a wrong text -/
theorem mt_read0 {post : Int32 → St2 → Prop} {x : Int32} (hx : x = 0 ∨ x = 1) (hw : ¬ wp = -4) (h : post (-3) (ct, 1, wp, ra, la, sa, pl, od, a1, a2, a3, a4, a5, a6, a7, a8, a9, a10, a11, a12, a13, a14, a15, a16, a17, a18, a19, a20, a21, a22, a23, a24)) : wpX_read post (ct, 1, wp, ra, la, sa, pl, od, a1, a2, a3, a4, a5, a6, a7, a8, a9, a10, a11, a12, a13, a14, a15, a16, a17, a18, a19, a20, a21, a22, a23, a24) x := by
  unfold wpX_read
  refine mt_slot hx (br_t rfl ?_)
  exact br_f (by decide) (br_f hw h)
/-- bond of an empty slot -/
theorem mt_bond0 {post : Int32 → Prop} {x : Int32} (hx : x = 0 ∨ x = 1) (h8 : a8 x.toNatClampNeg = 0) (h : post 0) : wpX_bond post (ct, ir, wp, ra, la, sa, pl, od, a1, a2, a3, a4, a5, a6, a7, a8, a9, a10, a11, a12, a13, a14, a15, a16, a17, a18, a19, a20, a21, a22, a23, a24) x 1 0 := by
  unfold wpX_bond
  refine mt_slot hx (br_t rfl ?_)
  refine br_f (by decide) ⟨mt_xin hx, br_f ?_ (br_f (by decide) h)⟩
  rw [h8]
  decide
/-- bond of atoms 1 and 0 of a slot of two -/
theorem mt_bond1 {post : Int32 → Prop} {x v : Int32} (hx : x = 0 ∨ x = 1) (h8 : a8 x.toNatClampNeg = 2) (hi : vp_in (((49 * x) + (7 * 1)) + 0) 98) (h10 : a10 (((49 * x) + (7 * 1)) + 0).toNatClampNeg = v) (h : post v) : wpX_bond post (ct, ir, wp, ra, la, sa, pl, od, a1, a2, a3, a4, a5, a6, a7, a8, a9, a10, a11, a12, a13, a14, a15, a16, a17, a18, a19, a20, a21, a22, a23, a24) x 1 0 := by
  unfold wpX_bond
  refine mt_slot hx (br_t rfl ?_)
  refine br_f (by decide) ⟨mt_xin hx, br_t ?_ (br_t rfl ?_)⟩
  · rw [h8]
    decide
  refine br_f (by decide) ⟨mt_xin hx, br_t ?_ (br_t rfl (br_f (by decide) ⟨hi, ?_⟩))⟩
  · rw [h8]
    decide
  subst h10
  exact h
/-- read of a right text of two atoms into slot 0 -/
theorem mt_read1 {post : Int32 → St2 → Prop} (h : post 2 (ct, 1, -4, 2, la, sa, pl, od, a1, a2, a3, a4, a5, a6, a7, upd a8 0 2, upd (upd a9 0 (a2 0)) 1 (a2 1), upd (upd (upd (upd a10 0 (a3 0)) 1 (a3 1)) 7 (a3 7)) 8 (a3 8), a11, a12, a13, a14, a15, a16, a17, a18, a19, a20, a21, a22, a23, a24)) : wpX_read post (ct, 1, -4, 2, la, sa, pl, od, a1, a2, a3, a4, a5, a6, a7, a8, a9, a10, a11, a12, a13, a14, a15, a16, a17, a18, a19, a20, a21, a22, a23, a24) 0 := by
  unfold wpX_read
  refine mt_slot (by decide) (br_t rfl ?_)
  refine br_f (by decide) (br_t rfl ⟨pk_in 0 2 (by decide), nm_r (e' := upd a8 0 2) rfl ⟨3, ?_⟩⟩)
  refine br_f (by decide) ⟨pk_in 0 7 (by decide), pk_in 0 14 (by decide), nm_r (e' := upd a9 0 (a2 0)) rfl ⟨3, ?_⟩⟩
  refine br_f (by decide) ⟨pk_in 0 49 (by decide), pk_in 0 98 (by decide), nm_r (e' := upd a10 0 (a3 0)) rfl (nm_r (e' := 1) (by decide) ?_)⟩
  refine br_f (by decide) ⟨pk_in 1 49 (by decide), pk_in 1 98 (by decide), nm_r (e' := upd (upd a10 0 (a3 0)) 1 (a3 1)) rfl (nm_r (e' := 2) (by decide) ?_)⟩
  refine br_t (by decide) (nm_r (e' := 1) (by decide) ?_)
  refine br_f (by decide) ⟨pk_in 1 7 (by decide), pk_in 1 14 (by decide), nm_r (e' := upd (upd a9 0 (a2 0)) 1 (a2 1)) rfl ⟨3, ?_⟩⟩
  refine br_f (by decide) ⟨pk_in 7 49 (by decide), pk_in 7 98 (by decide), nm_r (e' := upd (upd (upd a10 0 (a3 0)) 1 (a3 1)) 7 (a3 7)) rfl (nm_r (e' := 1) (by decide) ?_)⟩
  refine br_f (by decide) ⟨pk_in 8 49 (by decide), pk_in 8 98 (by decide), nm_r (e' := upd (upd (upd (upd a10 0 (a3 0)) 1 (a3 1)) 7 (a3 7)) 8 (a3 8)) rfl (nm_r (e' := 2) (by decide) ?_)⟩
  refine br_t (by decide) (nm_r (e' := 2) (by decide) ?_)
  exact br_t (by decide) h
/-- read of a right text of two atoms into slot 1 -/
theorem mt_read2 {post : Int32 → St2 → Prop} (h : post 2 (ct, 1, -4, 2, la, sa, pl, od, a1, a2, a3, a4, a5, a6, a7, upd a8 1 2, upd (upd a9 7 (a2 0)) 8 (a2 1), upd (upd (upd (upd a10 49 (a3 0)) 50 (a3 1)) 56 (a3 7)) 57 (a3 8), a11, a12, a13, a14, a15, a16, a17, a18, a19, a20, a21, a22, a23, a24)) : wpX_read post (ct, 1, -4, 2, la, sa, pl, od, a1, a2, a3, a4, a5, a6, a7, a8, a9, a10, a11, a12, a13, a14, a15, a16, a17, a18, a19, a20, a21, a22, a23, a24) 1 := by
  unfold wpX_read
  refine mt_slot (by decide) (br_t rfl ?_)
  refine br_f (by decide) (br_t rfl ⟨pk_in 1 2 (by decide), nm_r (e' := upd a8 1 2) rfl ⟨3, ?_⟩⟩)
  refine br_f (by decide) ⟨pk_in 0 7 (by decide), pk_in 7 14 (by decide), nm_r (e' := upd a9 7 (a2 0)) rfl ⟨3, ?_⟩⟩
  refine br_f (by decide) ⟨pk_in 0 49 (by decide), pk_in 49 98 (by decide), nm_r (e' := upd a10 49 (a3 0)) rfl (nm_r (e' := 1) (by decide) ?_)⟩
  refine br_f (by decide) ⟨pk_in 1 49 (by decide), pk_in 50 98 (by decide), nm_r (e' := upd (upd a10 49 (a3 0)) 50 (a3 1)) rfl (nm_r (e' := 2) (by decide) ?_)⟩
  refine br_t (by decide) (nm_r (e' := 1) (by decide) ?_)
  refine br_f (by decide) ⟨pk_in 1 7 (by decide), pk_in 8 14 (by decide), nm_r (e' := upd (upd a9 7 (a2 0)) 8 (a2 1)) rfl ⟨3, ?_⟩⟩
  refine br_f (by decide) ⟨pk_in 7 49 (by decide), pk_in 56 98 (by decide), nm_r (e' := upd (upd (upd a10 49 (a3 0)) 50 (a3 1)) 56 (a3 7)) rfl (nm_r (e' := 1) (by decide) ?_)⟩
  refine br_f (by decide) ⟨pk_in 8 49 (by decide), pk_in 57 98 (by decide), nm_r (e' := upd (upd (upd (upd a10 49 (a3 0)) 50 (a3 1)) 56 (a3 7)) 57 (a3 8)) rfl (nm_r (e' := 2) (by decide) ?_)⟩
  refine br_t (by decide) (nm_r (e' := 2) (by decide) ?_)
  exact br_t (by decide) h
end
end
section
section
variable {ct ir wp ra la sa pl od : Int32} {a1 a2 a3 a4 a5 a6 a7 a8 a9 a10 a11 a12 a13 a14 a15 a16 a17 a18 a19 a20 a21 a22 a23 a24 : Nat → Int32}
/-- the neighbours by order are zeroed -/
theorem mt_near2 {post : St2 → Prop} {x : Int32} (H : ∀ b12 : Nat → Int32, ∃ n, wX_findNear_23 post x ct ir wp ra la sa pl od n 0 a1 a2 a3 a4 a5 a6 a7 a8 a9 a10 a11 b12 a13 a14 a15 a16 a17 a18 a19 a20 a21 a22 a23 a24) : wpX_findNear post (ct, ir, wp, ra, la, sa, pl, od, a1, a2, a3, a4, a5, a6, a7, a8, a9, a10, a11, a12, a13, a14, a15, a16, a17, a18, a19, a20, a21, a22, a23, a24) x :=
  pk_loop (fun n i s => wX_findNear_2 post x ct ir wp ra la sa pl od n (nI i) a1 a2 a3 a4 a5 a6 a7 a8 a9 a10 a11 s a13 a14 a15 a16 a17 a18 a19 a20 a21 a22 a23 a24) (fun _ _ => True) 21 0 a12 (by omega) trivial
    (fun n s _ => br_t (by decide) (H s))
    (fun n i s hi _ hw => br_f (nI_ge (b := 21) hi (by decide)) ⟨vp_in_nI hi (by decide), nm_e (nm_r (nI_1 i) (hw _ trivial))⟩)
/-- an empty slot -/
theorem mt_near0 {post : St2 → Prop} {x : Int32} (hx : vp_in x 2) (h8 : a8 x.toNatClampNeg = 0) (H : ∀ b11 b12 : Nat → Int32, post (ct, ir, wp, ra, la, sa, pl, od, a1, a2, a3, a4, a5, a6, a7, a8, a9, a10, b11, b12, a13, a14, a15, a16, a17, a18, a19, a20, a21, a22, a23, a24)) : wpX_findNear post (ct, ir, wp, ra, la, sa, pl, od, a1, a2, a3, a4, a5, a6, a7, a8, a9, a10, a11, a12, a13, a14, a15, a16, a17, a18, a19, a20, a21, a22, a23, a24) x := by
  refine mt_near2 (fun b12 => ?_)
  refine pk_loop (fun n i s => wX_findNear_23 post x ct ir wp ra la sa pl od n (nI i) a1 a2 a3 a4 a5 a6 a7 a8 a9 a10 s b12 a13 a14 a15 a16 a17 a18 a19 a20 a21 a22 a23 a24) (fun _ _ => True) 7 0 a11 (by omega) trivial
    (fun n s _ => br_t (by decide) (H s b12))
    (fun n i s hi _ hw => br_f (nI_ge (b := 7) hi (by decide)) ⟨vp_in_nI hi (by decide), nm_e ⟨1, hx, br_t ?_ (nm_r (nI_1 i) (hw _ trivial))⟩⟩)
  rw [h8]
  decide
/-- a slot of two atoms with a bond of order 1 -/
theorem mt_near1 {post : St2 → Prop} {x : Int32} (hx : vp_in x 2) (h8 : a8 x.toNatClampNeg = 2) (i01 : vp_in (((49 * x) + (7 * 0)) + 1) 98) (h01 : a10 (((49 * x) + (7 * 0)) + 1).toNatClampNeg = 1) (i10 : vp_in (((49 * x) + (7 * 1)) + 0) 98) (h10 : a10 (((49 * x) + (7 * 1)) + 0).toNatClampNeg = 1)
    (H : ∀ b11 b12 : Nat → Int32, b11 0 = 2 → b11 1 = 1 → post (ct, ir, wp, ra, la, sa, pl, od, a1, a2, a3, a4, a5, a6, a7, a8, a9, a10, b11, b12, a13, a14, a15, a16, a17, a18, a19, a20, a21, a22, a23, a24)) : wpX_findNear post (ct, ir, wp, ra, la, sa, pl, od, a1, a2, a3, a4, a5, a6, a7, a8, a9, a10, a11, a12, a13, a14, a15, a16, a17, a18, a19, a20, a21, a22, a23, a24) x := by
  have l0 : ¬ a8 x.toNatClampNeg ≤ 0 := by rw [h8]; decide
  have l1 : ¬ a8 x.toNatClampNeg ≤ 1 := by rw [h8]; decide
  have l2 : a8 x.toNatClampNeg ≤ 2 := by rw [h8]; decide
  refine mt_near2 (fun b12 => ?_)
  refine pk_loop (σ := (Nat → Int32) × (Nat → Int32)) (fun n i s => wX_findNear_23 post x ct ir wp ra la sa pl od n (nI i) a1 a2 a3 a4 a5 a6 a7 a8 a9 a10 (s.1) (s.2) a13 a14 a15 a16 a17 a18 a19 a20 a21 a22 a23 a24) (fun i s => (0 < i → s.1 0 = 2) ∧ (1 < i → s.1 1 = 1)) 7 0 (a11, b12) (by omega) ⟨fun z => absurd z (by decide), fun z => absurd z (by decide)⟩
    (fun n s h => br_t (by decide) (H s.1 s.2 (h.1 (by decide)) (h.2 (by decide)))) ?_
  intro n i s hi h hw
  refine br_f (nI_ge (b := 7) hi (by decide)) ⟨vp_in_nI hi (by decide), nm_r (e' := upd s.1 i 0) (by rw [nI_clamp (by omega)]) ?_⟩
  have g0 : ∀ a : Nat → Int32, upd (upd a 0 0) 0 (upd a 0 0 0 ||| ((1 : Int32) <<< ((1 : Int32) &&& 31))) = upd (upd a 0 0) 0 2 := by
    intro a
    rw [pk_us]
    exact congrArg (upd (upd a 0 0) 0) (by decide)
  have g1 : ∀ a : Nat → Int32, upd (upd a 1 0) 1 (upd a 1 0 1 ||| ((1 : Int32) <<< ((0 : Int32) &&& 31))) = upd (upd a 1 0) 1 1 := by
    intro a
    rw [pk_us]
    exact congrArg (upd (upd a 1 0) 1) (by decide)
  match i, hi, h, hw with
  | 0, hi, h, hw =>
    refine ⟨3, ?_⟩
    refine ⟨hx, br_f l0 ⟨hx, br_f l0 (br_t rfl ?_)⟩⟩
    refine br_t (by decide) (nm_r (e' := 1) (by decide) ?_)
    refine ⟨hx, br_f l1 ⟨hx, br_f l0 (br_f (by decide) ⟨i01, ?_⟩)⟩⟩
    refine br_f (fun z => ?_) ⟨pk_in 0 7 (by decide), pk_in 0 7 (by decide), nm_r (e' := upd (upd s.1 0 0) 0 2) (g0 s.1) ⟨?_, ?_, nm_e (nm_r (e' := 2) (by decide) ?_)⟩⟩
    · have z' : a10 (((49 * x) + (7 * 0)) + 1).toNatClampNeg ≤ 0 := z
      rw [h01] at z'
      exact absurd z' (by decide)
    · show vp_in ((7 * (a10 (((49 * x) + (7 * 0)) + 1).toNatClampNeg - 1)) + 0) 21
      rw [h01]
      exact pk_in 0 21 (by decide)
    · show vp_in ((7 * (a10 (((49 * x) + (7 * 0)) + 1).toNatClampNeg - 1)) + 0) 21
      rw [h01]
      exact pk_in 0 21 (by decide)
    · refine ⟨hx, br_t l2 (nm_r (e' := 1) (by decide) ?_)⟩
      exact hw (upd (upd s.1 0 0) 0 2, _) ⟨fun _ => rfl, fun z => absurd z (by decide)⟩
  | 1, hi, h, hw =>
    refine ⟨3, ?_⟩
    refine ⟨hx, br_f l0 ⟨hx, br_f l1 (br_f (by decide) ⟨i10, ?_⟩)⟩⟩
    refine br_f (fun z => ?_) ⟨pk_in 1 7 (by decide), pk_in 1 7 (by decide), nm_r (e' := upd (upd s.1 1 0) 1 1) (g1 s.1) ⟨?_, ?_, nm_e (nm_r (e' := 1) (by decide) ?_)⟩⟩
    · have z' : a10 (((49 * x) + (7 * 1)) + 0).toNatClampNeg ≤ 0 := z
      rw [h10] at z'
      exact absurd z' (by decide)
    · show vp_in ((7 * (a10 (((49 * x) + (7 * 1)) + 0).toNatClampNeg - 1)) + 1) 21
      rw [h10]
      exact pk_in 1 21 (by decide)
    · show vp_in ((7 * (a10 (((49 * x) + (7 * 1)) + 0).toNatClampNeg - 1)) + 1) 21
      rw [h10]
      exact pk_in 1 21 (by decide)
    · refine ⟨hx, br_f l1 ⟨hx, br_f l1 (br_t rfl ?_)⟩⟩
      refine br_t (by decide) (nm_r (e' := 2) (by decide) ?_)
      refine ⟨hx, br_t l2 (nm_r (e' := 2) (by decide) ?_)⟩
      exact hw (upd (upd s.1 1 0) 1 1, _) ⟨fun _ => h.1 (by decide), fun _ => rfl⟩
  | i + 2, hi, h, hw =>
    refine ⟨1, hx, br_f l0 ⟨hx, br_t ?_ (nm_r (nI_1 _) (hw (_, _) ⟨fun _ => ?_, fun _ => ?_⟩))⟩⟩
    · rw [h8]
      exact nI_le (a := 2) (by omega) (by omega)
    · show upd s.1 (i + 2) 0 0 = 2
      rw [pk_un (by omega)]
      exact h.1 (by omega)
    · show upd s.1 (i + 2) 0 1 = 1
      rw [pk_un (by omega)]
      exact h.2 (by omega)
/-- a set with all neighbours -/
theorem mt_wider {post : Int32 → Prop} {p : Int32} (hp : p = 1 ∨ p = 3) (h0 : a11 0 = 2) (h1 : a11 1 = 1) (h : post 3) : wpX_wider post (ct, ir, wp, ra, la, sa, pl, od, a1, a2, a3, a4, a5, a6, a7, a8, a9, a10, a11, a12, a13, a14, a15, a16, a17, a18, a19, a20, a21, a22, a23, a24) p := by
  have e0 : (1 : Int32) ||| a11 (0 : Int32).toNatClampNeg = 3 := by
    show (1 : Int32) ||| a11 0 = 3
    rw [h0]
    decide
  have e1 : (3 : Int32) ||| a11 (0 : Int32).toNatClampNeg = 3 := by
    show (3 : Int32) ||| a11 0 = 3
    rw [h0]
    decide
  have e2 : (3 : Int32) ||| a11 (1 : Int32).toNatClampNeg = 3 := by
    show (3 : Int32) ||| a11 1 = 3
    rw [h1]
    decide
  rcases hp with rfl | rfl
  · refine ⟨8, ?_⟩
    refine br_f (by decide) (br_t (by decide) ⟨pk_in 0 7 (by decide), nm_r (e' := 3) e0 (nm_r (e' := 1) (by decide) ?_)⟩)
    refine br_f (by decide) (br_f (by decide) (nm_r (e' := 2) (by decide) ?_))
    refine br_f (by decide) (br_f (by decide) (nm_r (e' := 3) (by decide) ?_))
    refine br_f (by decide) (br_f (by decide) (nm_r (e' := 4) (by decide) ?_))
    refine br_f (by decide) (br_f (by decide) (nm_r (e' := 5) (by decide) ?_))
    refine br_f (by decide) (br_f (by decide) (nm_r (e' := 6) (by decide) ?_))
    refine br_f (by decide) (br_f (by decide) (nm_r (e' := 7) (by decide) ?_))
    exact br_t (by decide) h
  · refine ⟨8, ?_⟩
    refine br_f (by decide) (br_t (by decide) ⟨pk_in 0 7 (by decide), nm_r (e' := 3) e1 (nm_r (e' := 1) (by decide) ?_)⟩)
    refine br_f (by decide) (br_t (by decide) ⟨pk_in 1 7 (by decide), nm_r (e' := 3) e2 (nm_r (e' := 2) (by decide) ?_)⟩)
    refine br_f (by decide) (br_f (by decide) (nm_r (e' := 3) (by decide) ?_))
    refine br_f (by decide) (br_f (by decide) (nm_r (e' := 4) (by decide) ?_))
    refine br_f (by decide) (br_f (by decide) (nm_r (e' := 5) (by decide) ?_))
    refine br_f (by decide) (br_f (by decide) (nm_r (e' := 6) (by decide) ?_))
    refine br_f (by decide) (br_f (by decide) (nm_r (e' := 7) (by decide) ?_))
    exact br_t (by decide) h
/-- the piece of atom 0 -/
theorem mt_piece {post : Int32 → Prop} {p : Int32} (hp : p = 1) (h0 : a11 0 = 2) (h1 : a11 1 = 1) (h : post 3) : wpX_pieceOf post (ct, ir, wp, ra, la, sa, pl, od, a1, a2, a3, a4, a5, a6, a7, a8, a9, a10, a11, a12, a13, a14, a15, a16, a17, a18, a19, a20, a21, a22, a23, a24) p := by
  subst hp
  refine pk_loop (fun n i s => wX_pieceOf_4 post ct ir wp ra la sa pl od a1 a2 a3 a4 a5 a6 a7 a8 a9 a10 a11 a12 a13 a14 a15 a16 a17 a18 a19 a20 a21 a22 a23 a24 n s (nI i)) (fun i s => (s = 1 ∨ s = 3) ∧ (0 < i → s = 3)) 7 0 1 (by omega) ⟨Or.inl rfl, fun z => absurd z (by decide)⟩ ?_ ?_
  · intro n s hs
    have e := hs.2 (by decide)
    subst e
    exact br_t (by decide) h
  · intro n i s hi hs hw
    exact br_f (nI_ge (b := 7) hi (by decide)) (mt_wider hs.1 h0 h1 (nm_r (nI_1 i) (hw 3 ⟨Or.inr rfl, fun _ => rfl⟩)))
theorem mt_pieces1 {post : Int32 → St2 → Prop} {x : Int32} (hx : x = 0 ∨ x = 1) (h8 : a8 x.toNatClampNeg = 2) (i01 : vp_in (((49 * x) + (7 * 0)) + 1) 98) (h01 : a10 (((49 * x) + (7 * 0)) + 1).toNatClampNeg = 1) (i10 : vp_in (((49 * x) + (7 * 1)) + 0) 98) (h10 : a10 (((49 * x) + (7 * 1)) + 0).toNatClampNeg = 1)
    (H : ∀ b11 b12 : Nat → Int32, post 1 (ct, ir, wp, ra, la, sa, pl, od, a1, a2, a3, a4, a5, a6, a7, a8, a9, a10, b11, b12, a13, a14, a15, a16, a17, a18, a19, a20, a21, a22, a23, a24)) : wpX_pieces post (ct, ir, wp, ra, la, sa, pl, od, a1, a2, a3, a4, a5, a6, a7, a8, a9, a10, a11, a12, a13, a14, a15, a16, a17, a18, a19, a20, a21, a22, a23, a24) x := by
  unfold wpX_pieces
  refine mt_slot hx (br_t rfl ?_)
  refine mt_near1 (mt_xin hx) h8 i01 h01 i10 h10 (fun b11 b12 g0 g1 => ?_)
  refine ⟨mt_xin hx, nm_r (e' := 3) (by rw [h8]; decide) ⟨2, ?_⟩⟩
  refine br_f (by decide) (br_f (by decide) (mt_piece (by decide) g0 g1 ?_))
  refine nm_r (e' := 0) (by decide) (nm_r (e' := 1) (by decide) (nm_r (e' := 1) (by decide) ?_))
  exact br_f (by decide) (br_t rfl (H b11 b12))
theorem mt_pieces0 {post : Int32 → St2 → Prop} {x : Int32} (hx : x = 0 ∨ x = 1) (h8 : a8 x.toNatClampNeg = 0)
    (H : ∀ b11 b12 : Nat → Int32, post 0 (ct, ir, wp, ra, la, sa, pl, od, a1, a2, a3, a4, a5, a6, a7, a8, a9, a10, b11, b12, a13, a14, a15, a16, a17, a18, a19, a20, a21, a22, a23, a24)) : wpX_pieces post (ct, ir, wp, ra, la, sa, pl, od, a1, a2, a3, a4, a5, a6, a7, a8, a9, a10, a11, a12, a13, a14, a15, a16, a17, a18, a19, a20, a21, a22, a23, a24) x := by
  unfold wpX_pieces
  refine mt_slot hx (br_t rfl ?_)
  refine mt_near0 (mt_xin hx) h8 (fun b11 b12 => ?_)
  refine ⟨mt_xin hx, nm_r (e' := 0) (by rw [h8]; decide) ⟨1, ?_⟩⟩
  exact br_f (by decide) (br_t rfl (H b11 b12))
end
end
section
section
variable {ct ir wp ra la sa pl od : Int32} {a1 a2 a3 a4 a5 a6 a7 a8 a9 a10 a11 a12 a13 a14 a15 a16 a17 a18 a19 a20 a21 a22 a23 a24 : Nat → Int32}
theorem mt_g20 : mt_good 20 := Or.inr (Or.inr rfl)
theorem mt_g14 : mt_good 14 := Or.inr (Or.inl (Or.inr (Or.inr rfl)))
theorem mt_gs {o : Int32} (ho : o = 2 ∨ o = 3) : mt_good (10 + o) := by
  rcases ho with rfl | rfl
  · exact Or.inr (Or.inl (Or.inl (by decide)))
  · exact Or.inr (Or.inl (Or.inr (Or.inl (by decide))))
/-- order 1 -/
theorem mt_law1 {post : Int32 → St0 → Prop} {mc ms kc ks : Nat} {t u x : Int32} (h0 : a1 0 = t) (h1 : a1 1 = 20) (gu : mt_good u) (ht : ¬ 3 < t) (hu : ¬ 3 < u) (f0 : ¬ 4 - t < 1) (f1 : ¬ 4 - u < 1) (hx : x = 0 ∨ x = 1) (h : post 1 ()) : wL_lawOf_65 post mc ms t u 1 x 14 kc ks (nI 2) ir wp ra la sa pl od a1 a2 a3 a4 a5 a6 a7 a8 a9 a10 a11 a12 a13 a14 a15 a16 a17 a18 a19 a20 a21 a22 a23 a24 := by
  unfold wL_lawOf_65
  refine mt_token 2 (by decide) mt_g14 ?_
  refine mt_token 3 (by decide) gu ?_
  refine mt_one4 (t := t) (u := u) ?_ ?_ ?_ ?_ ht hu (fun ra la sa b2 b3 b4 b6 b7 => ?_)
  · exact h0
  · exact h1
  · rfl
  · rfl
  refine mt_token 4 (by decide) mt_g20 ?_
  refine mt_one5 (t := t) (u := u) ?_ ?_ ?_ ?_ ?_ ht hu f0 f1 (fun la sa b2 b3 b4 b6 b7 y1 y7 => ?_)
  · exact h0
  · exact h1
  · rfl
  · rfl
  · rfl
  have E : wL_lawOf_144 post mc ms t u 1 4 4 (-4) 2 1 1 1 kc ks := by
    refine br_t rfl (br_f (by decide) (br_f f0 (br_f f1 ?_)))
    refine br_t rfl (br_f (by decide) ?_)
    refine br_t rfl (br_f (by decide) ?_)
    refine br_t rfl (br_f (by decide) ?_)
    refine br_t rfl (br_f (by decide) ?_)
    refine br_t rfl (br_f (by decide) ?_)
    exact br_t rfl h
  rcases hx with rfl | rfl
  · refine mt_read1 ?_
    refine mt_bond1 (v := 1) (Or.inl rfl) rfl (pk_in 7 98 (by decide)) ?_ ?_
    · exact y7
    refine mt_pieces1 (Or.inl rfl) rfl (pk_in 1 98 (by decide)) ?_ (pk_in 7 98 (by decide)) ?_ (fun b11 b12 => ?_)
    · exact y1
    · exact y7
    exact br_f f0 (br_f f1 E)
  · refine mt_read2 ?_
    refine mt_bond1 (v := 1) (Or.inr rfl) rfl (pk_in 56 98 (by decide)) ?_ ?_
    · exact y7
    refine mt_pieces1 (Or.inr rfl) rfl (pk_in 50 98 (by decide)) ?_ (pk_in 56 98 (by decide)) ?_ (fun b11 b12 => ?_)
    · exact y1
    · exact y7
    exact br_f f0 (br_f f1 E)
/-- order 2 or 3, both atoms have room -/
theorem mt_law2 {post : Int32 → St0 → Prop} {mc ms kc ks : Nat} {t u x o : Int32} (ho : o = 2 ∨ o = 3) (h0 : a1 0 = t) (h1 : a1 1 = 20) (gu : mt_good u) (ht : ¬ 3 < t) (hu : ¬ 3 < u) (f0 : ¬ 4 - t < o) (f1 : ¬ 4 - u < o) (hx : x = 0 ∨ x = 1) (h8 : a8 x.toNatClampNeg = 0) (h : post 1 ()) : wL_lawOf_65 post mc ms t u o x (10 + o) kc ks (nI 2) ir wp ra la sa pl od a1 a2 a3 a4 a5 a6 a7 a8 a9 a10 a11 a12 a13 a14 a15 a16 a17 a18 a19 a20 a21 a22 a23 a24 := by
  unfold wL_lawOf_65
  refine mt_token 2 (by decide) (mt_gs ho) ?_
  refine mt_token 3 (by decide) gu ?_
  refine mt_two4 (t := t) (u := u) ho ?_ ?_ ?_ ?_ ht hu (fun _ _ ra la sa b2 b3 b4 b6 b7 => ?_) (fun z => absurd z (fun z => z.elim f0 f1))
  · exact h0
  · exact h1
  · rfl
  · rfl
  refine mt_token 4 (by decide) mt_g20 ?_
  refine mt_two5 (t := t) (u := u) ho ?_ ?_ ?_ ?_ ?_ ht hu (fun _ _ ra la sa b2 b3 b4 b6 b7 => ?_) (fun z => absurd z (fun z => z.elim f0 f1))
  · exact h0
  · exact h1
  · rfl
  · rfl
  · rfl
  refine mt_read0 hx (by decide) ?_
  refine mt_bond0 hx h8 ?_
  refine mt_pieces0 hx h8 (fun b11 b12 => ?_)
  refine br_f f0 (br_f f1 ?_)
  refine br_f (by rcases ho with rfl | rfl <;> decide) (br_t rfl ?_)
  refine br_t (by decide) (br_t rfl (br_f (by decide) ?_))
  refine br_t rfl (br_t rfl (br_f (by decide) ?_))
  refine br_t rfl (br_t rfl ?_)
  refine br_t rfl (br_t rfl ?_)
  refine br_t rfl (br_t rfl ?_)
  exact br_t rfl h
/-- order 2 or 3, an atom has no room -/
theorem mt_law3 {post : Int32 → St0 → Prop} {mc ms kc ks : Nat} {t u x o : Int32} (ho : o = 2 ∨ o = 3) (h0 : a1 0 = t) (h1 : a1 1 = 20) (gu : mt_good u) (ht : ¬ 3 < t) (hu : ¬ 3 < u) (f : 4 - t < o ∨ 4 - u < o) (hx : x = 0 ∨ x = 1) (h8 : a8 x.toNatClampNeg = 0) (h : post 1 ()) : wL_lawOf_65 post mc ms t u o x (10 + o) kc ks (nI 2) ir wp ra la sa pl od a1 a2 a3 a4 a5 a6 a7 a8 a9 a10 a11 a12 a13 a14 a15 a16 a17 a18 a19 a20 a21 a22 a23 a24 := by
  have E : wL_lawOf_143 post mc ms t u o 4 3 3 (-3) 0 0 kc ks := by
    refine br_f (by rcases ho with rfl | rfl <;> decide) (br_t rfl ?_)
    refine br_t rfl (br_t rfl (br_t rfl ?_))
    refine br_t rfl (br_t rfl (br_t rfl ?_))
    refine br_t rfl (br_t rfl ?_)
    refine br_t rfl (br_t rfl ?_)
    refine br_t rfl (br_t rfl ?_)
    exact br_t rfl h
  unfold wL_lawOf_65
  refine mt_token 2 (by decide) (mt_gs ho) ?_
  refine mt_token 3 (by decide) gu ?_
  refine mt_two4 (t := t) (u := u) ho ?_ ?_ ?_ ?_ ht hu (fun z y => absurd f (fun f => f.elim z y)) (fun _ ra la sa b2 b3 b4 b6 b7 => ?_)
  · exact h0
  · exact h1
  · rfl
  · rfl
  refine mt_token 4 (by decide) mt_g20 ?_
  refine mt_two5 (t := t) (u := u) ho ?_ ?_ ?_ ?_ ?_ ht hu (fun z y => absurd f (fun f => f.elim z y)) (fun _ ra la sa b2 b3 b4 b6 b7 => ?_)
  · exact h0
  · exact h1
  · rfl
  · rfl
  · rfl
  refine mt_read0 hx (by decide) ?_
  refine mt_bond0 hx h8 ?_
  refine mt_pieces0 hx h8 (fun b11 b12 => ?_)
  exact br_c (fun _ => E) (fun z => br_c (fun _ => E) (fun y => absurd f (fun f => f.elim z y)))
end
end
section
theorem mt_f {i : Nat} (h : i < 4) : ¬ 4 - nI i < 1 := by
  match i, h with
  | 0, _ => decide
  | 1, _ => decide
  | 2, _ => decide
  | 3, _ => decide
  | n + 4, h => exact absurd h (by omega)
theorem mt_x {l : Nat} (h : l < 2) : nI l = 0 ∨ nI l = 1 := by
  match l, h with
  | 0, _ => exact Or.inl rfl
  | 1, _ => exact Or.inr rfl
  | n + 2, h => exact absurd h (by omega)
theorem mt_o {k : Nat} (h : k < 4) : ∃ o : Int32, (o = 1 ∨ o = 2 ∨ o = 3) ∧ 1 + (nI k - nI k / 3 * 3) = o := by
  match k, h with
  | 0, _ => exact ⟨1, Or.inl rfl, by decide⟩
  | 1, _ => exact ⟨2, Or.inr (Or.inl rfl), by decide⟩
  | 2, _ => exact ⟨3, Or.inr (Or.inr rfl), by decide⟩
  | 3, _ => exact ⟨1, Or.inl rfl, by decide⟩
  | n + 4, h => exact absurd h (by omega)
theorem mt_law (p0 p1 : Int32) : wpL_lawOf (fun r _ => r = 1) 876 14000 () p0 p1 := by
  obtain ⟨i, hi, ei⟩ := pk_andE p0 (m := 3) 2 rfl
  obtain ⟨j, hj, ej⟩ := pk_andE (p0 >>> ((2 : Int32) &&& 31)) (m := 3) 2 rfl
  obtain ⟨k, hk, ek⟩ := pk_andE p1 (m := 3) 2 rfl
  obtain ⟨l, hl, el⟩ := pk_andE (p1 >>> ((2 : Int32) &&& 31)) (m := 1) 1 rfl
  obtain ⟨o, ho, eo⟩ := mt_o hk
  have ti : ¬ 3 < nI i := nI_nlt (a := 3) (by omega) (by decide)
  have tj : ¬ 3 < nI j := nI_nlt (a := 3) (by omega) (by decide)
  refine ⟨by decide, by decide, 800, 13000, by decide, by decide, ?_⟩
  unfold wpX_init
  refine ⟨by decide, by decide, by decide, by decide, by decide, by decide, by decide, by decide, by decide, by decide, by decide, by decide, by decide, by decide, by decide, by decide, by decide, by decide, by decide, by decide, by decide, by decide, by decide, by decide, by decide, by decide, by decide, by decide, by decide, by decide, by decide, by decide, by decide, by decide, by decide, by decide, by decide, by decide, by decide, by decide, by decide, by decide, by decide, by decide, by decide, by decide, by decide, by decide, ?_⟩
  refine nm_r ei (nm_r ej ⟨by decide, nm_r (e' := o) ?_ (nm_r el ?_)⟩)
  · rw [ek]
    exact eo
  refine mt_token 0 (by decide) (mt_good4 hi) ?_
  refine mt_token 1 (by decide) mt_g20 ?_
  rcases ho with rfl | ho
  · refine br_t (by decide) (mt_law1 ?_ ?_ (mt_good4 hj) ti tj (mt_f hi) (mt_f hj) (mt_x hl) rfl)
    · rfl
    · rfl
  · refine br_f (by rcases ho with rfl | rfl <;> decide) ?_
    by_cases f0 : 4 - nI i < o
    · refine mt_law3 ho ?_ ?_ (mt_good4 hj) ti tj (Or.inl f0) (mt_x hl) ?_ rfl
      · rfl
      · rfl
      · rfl
    · by_cases f1 : 4 - nI j < o
      · refine mt_law3 ho ?_ ?_ (mt_good4 hj) ti tj (Or.inr f1) (mt_x hl) ?_ rfl
        · rfl
        · rfl
        · rfl
      · refine mt_law2 ho ?_ ?_ (mt_good4 hj) ti tj f0 f1 (mt_x hl) ?_ rfl
        · rfl
        · rfl
        · rfl
theorem mt_cell {post : Int32 → Prop} {L : Nat} {xs : Nat → Int32} (hL : L ≤ 2) (k : Nat) (hk : k < 2) (h : ∀ v, post v) : wpL_cellAt post L xs () (nI k) :=
  pk_le L k (fun _ => h _) (fun z => ⟨pk_in k L z, h _⟩)
theorem i_vc (xs : Nat → Int32) (L : Nat) (hL : L ≤ 2) : wpL_law (fun r => r = 1) L xs :=
  mt_cell hL 0 (by decide) (fun v => mt_cell hL 1 (by decide) (fun w => ⟨876, 14000, by decide, by decide, mt_law v w⟩))
end
