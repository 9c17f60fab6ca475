section
/-! RevisionQueries: the draft stays empty (height 0), so every body is one NUM token of value 0 -/
section
variable {ht rv sc fr tp fl : Int32} {a1 a2 a3 a4 a5 a6 a7 a8 a9 a10 a11 a12 a13 a14 a15 a16 a17 a18 a19 a20 a21 : Nat → Int32}
/-- the picture: every body of length 1, tokens, firsts, memos, circular marks and need counts all 0 -/
def rq_J (rv : Int32) (a1 a2 a3 a9 a12 a14 : Nat → Int32) : Prop := rv ≠ 0 ∧ (∀ q, q < 8 → a1 q = 1) ∧ (∀ j, a2 j = 0) ∧ (∀ j, a3 j = 0) ∧ (∀ j, a9 j = 0) ∧ (∀ j, a12 j = 0) ∧ (∀ j, a14 j = 0)
theorem rq_u0 {f : Nat → Int32} (h : ∀ j, f j = 0) (k : Nat) : ∀ j, upd f k 0 j = 0 := by
  intro j
  by_cases e : j = k
  · rw [e, pk_us]
  · rw [pk_un e]
    exact h j
theorem rq_m10 : ∀ q, q < 8 → nI q * 10 + 0 = nI (q * 10) := by decide +kernel
/-! fresh, startWork, request -/
theorem rq_fresh {post : Int32 → Prop} {q : Nat} (hq : q < 8) (H0 : post 0) (H1 : post 1) : wpX_fresh post (ht, rv, sc, fr, tp, fl, a1, a2, a3, a4, a5, a6, a7, a8, a9, a10, a11, a12, a13, a14, a15, a16, a17, a18, a19, a20, a21) (nI q) :=
  ⟨pk_in q 8 hq, br_c (fun _ => H0) (fun _ => ⟨pk_in q 8 hq, br_c (fun _ => ⟨pk_in q 8 hq, br_c (fun _ => H1) (fun _ => H0)⟩) (fun _ => H0)⟩)⟩
theorem rq_start {post : St2 → Prop} {q : Nat} (hq : q < 8) (e : a16 0 = nI q) (H : post (ht, rv, sc, fr, tp, fl, a1, a2, a3, a4, a5, a6, a7, upd a8 q 1, a9, a10, a11, a12, a13, upd a14 q 0, a15, a16, upd a17 0 1, upd a18 0 0, a19, a20, a21)) : wpX_startWork post (ht, rv, sc, fr, tp, fl, a1, a2, a3, a4, a5, a6, a7, a8, a9, a10, a11, a12, a13, a14, a15, a16, a17, a18, a19, a20, a21) 0 :=
  ⟨pk_in 0 8 (by omega), nm_r (e' := nI q) e ⟨pk_in 0 8 (by omega), nm_e ⟨pk_in 0 8 (by omega), nm_e ⟨pk_in q 8 hq, nm_r (e' := upd a8 q 1) (by rw [pk_cl q]) ⟨pk_in q 8 hq, nm_r (e' := upd a14 q 0) (by rw [pk_cl q]) H⟩⟩⟩⟩⟩
theorem rq_112 {post : St2 → Prop} {q : Nat} (hq : q < 8) (h14 : ∀ j, a14 j = 0)
    (H2 : ∀ b16 b17 b18 : Nat → Int32, b16 0 = nI q → b17 0 = 0 → b18 0 = 0 → post (ht, rv, sc, 1, tp, fl, a1, a2, a3, a4, a5, a6, a7, a8, a9, a10, a11, a12, a13, a14, a15, b16, b17, b18, a19, a20, a21))
    (H3 : ∀ b8 b14 b16 b17 b18 : Nat → Int32, b16 0 = nI q → b17 0 = 1 → b18 0 = 0 → (∀ j, b14 j = 0) → post (ht, rv, sc, 1, tp, fl, a1, a2, a3, a4, a5, a6, a7, b8, a9, a10, a11, a12, a13, b14, a15, b16, b17, b18, a19, a20, a21)) :
    wX_request_112 post (nI q) ht rv sc 0 tp fl a1 a2 a3 a4 a5 a6 a7 a8 a9 a10 a11 a12 a13 a14 a15 a16 a17 a18 a19 a20 a21 := by
  have Y : wX_request_166 post 0 ht rv sc 1 tp fl a1 a2 a3 a4 a5 a6 a7 a8 a9 a10 a11 a12 a13 a14 a15 (upd a16 0 (nI q)) (upd a17 0 0) (upd a18 0 0) a19 a20 a21 :=
    rq_start hq pk_us (H3 _ _ _ _ _ pk_us pk_us pk_us (rq_u0 h14 q))
  exact nm_r (e' := 1) (by decide) ⟨pk_in 0 8 (by omega), nm_e ⟨pk_in 0 8 (by omega), nm_e ⟨pk_in 0 8 (by omega), nm_e ⟨pk_in q 8 hq, br_c (fun _ => Y) (fun _ => ⟨pk_in q 8 hq, br_c (fun _ => H2 _ _ _ pk_us pk_us pk_us) (fun _ => Y)⟩)⟩⟩⟩⟩
theorem rq_request {post : St2 → Prop} {q : Nat} (hq : q < 8) (hr : rv ≠ 0) (h12 : ∀ j, a12 j = 0) (h14 : ∀ j, a14 j = 0)
    (H1 : ∀ b10 : Nat → Int32, post (ht, rv, sc, 0, tp, fl, a1, a2, a3, a4, a5, a6, a7, a8, a9, b10, a11, a12, a13, a14, a15, a16, a17, a18, a19, a20, a21))
    (H2 : ∀ b16 b17 b18 : Nat → Int32, b16 0 = nI q → b17 0 = 0 → b18 0 = 0 → post (ht, rv, sc, 1, tp, fl, a1, a2, a3, a4, a5, a6, a7, a8, a9, a10, a11, a12, a13, a14, a15, b16, b17, b18, a19, a20, a21))
    (H3 : ∀ b8 b14 b16 b17 b18 : Nat → Int32, b16 0 = nI q → b17 0 = 1 → b18 0 = 0 → (∀ j, b14 j = 0) → post (ht, rv, sc, 1, tp, fl, a1, a2, a3, a4, a5, a6, a7, b8, a9, a10, a11, a12, a13, b14, a15, b16, b17, b18, a19, a20, a21)) :
    wpX_request post (ht, rv, sc, 0, tp, fl, a1, a2, a3, a4, a5, a6, a7, a8, a9, a10, a11, a12, a13, a14, a15, a16, a17, a18, a19, a20, a21) (nI q) := by
  have X : wX_request_112 post (nI q) ht rv sc 0 tp fl a1 a2 a3 a4 a5 a6 a7 a8 a9 a10 a11 a12 a13 a14 a15 a16 a17 a18 a19 a20 a21 := rq_112 hq h14 H2 H3
  have c : ¬ a12 (nI q).toNatClampNeg = rv := fun z => hr (z.symm.trans (h12 _))
  exact ⟨1, pk_le 0 0 (fun _ => br_t rfl ⟨pk_in q 8 hq, br_f c ⟨pk_in q 8 hq, br_c (fun _ => X) (fun _ => ⟨pk_in q 8 hq, br_c (fun _ => ⟨pk_in q 8 hq, br_c (fun _ => X) (fun _ => ⟨pk_in q 8 hq, br_c (fun _ => X) (fun _ => ⟨pk_in q 8 hq, nm_e (H1 _)⟩)⟩)⟩) (fun _ => X)⟩)⟩⟩) (fun z => absurd z (by omega))⟩
/-! allSteady, checkStep -/
theorem rq_all {post : Int32 → Prop} {q : Nat} (hq : q < 8) (h14 : ∀ j, a14 j = 0) (H : post 1) : wpX_allSteady post (ht, rv, sc, fr, tp, fl, a1, a2, a3, a4, a5, a6, a7, a8, a9, a10, a11, a12, a13, a14, a15, a16, a17, a18, a19, a20, a21) (nI q) :=
  ⟨1, pk_in q 8 hq, br_t (by rw [h14]; decide) ⟨by rfl, H⟩⟩
theorem rq_check {post : St2 → Prop} {q : Nat} (hq : q < 8) (e16 : a16 0 = nI q) (e18 : a18 0 = 0) (h14 : ∀ j, a14 j = 0)
    (H : ∀ b10 b13 : Nat → Int32, post (ht, rv, sc, 0, tp, fl, a1, a2, a3, a4, a5, a6, a7, a8, a9, b10, a11, a12, b13, a14, a15, a16, a17, a18, a19, a20, a21)) : wpX_checkStep post (ht, rv, sc, 1, tp, fl, a1, a2, a3, a4, a5, a6, a7, a8, a9, a10, a11, a12, a13, a14, a15, a16, a17, a18, a19, a20, a21) 0 :=
  ⟨pk_in 0 8 (by omega), nm_r (e' := nI q) e16 ⟨pk_in 0 8 (by omega), pk_in q 8 hq, br_t (e18.trans (h14 _).symm) ⟨pk_in q 8 hq, nm_e (rq_all hq h14 ⟨pk_in q 8 hq, nm_e (nm_r (e' := 0) (by decide) (H _ _))⟩)⟩⟩⟩
/-! workStep: the NUM token, then the end -/
theorem rq_219 {post : St2 → Prop} (H : post (ht, rv, sc, fr, tp, fl, a1, a2, a3, a4, a5, a6, a7, a8, a9, a10, a11, a12, a13, a14, a15, a16, a17, upd a18 0 (a18 0 + 1), a19, a20, a21)) : wX_workStep_219 post 0 ht rv sc fr tp fl a1 a2 a3 a4 a5 a6 a7 a8 a9 a10 a11 a12 a13 a14 a15 a16 a17 a18 a19 a20 a21 :=
  ⟨pk_in 0 8 (by omega), pk_in 0 8 (by omega), nm_e H⟩
theorem rq_work1 {post : St2 → Prop} {q : Nat} (hq : q < 8) (e16 : a16 0 = nI q) (e18 : a18 0 = 0) (h1 : a1 q = 1) (h2 : ∀ j, a2 j = 0) (h3 : ∀ j, a3 j = 0)
    (H : ∀ b18 b19 : Nat → Int32, b18 0 = 1 → b19 0 = 0 → post (ht, rv, sc, fr, 1, fl, a1, a2, a3, a4, a5, a6, a7, a8, a9, a10, a11, a12, a13, a14, a15, a16, a17, b18, b19, a20, a21)) : wpX_workStep post (ht, rv, sc, fr, 0, fl, a1, a2, a3, a4, a5, a6, a7, a8, a9, a10, a11, a12, a13, a14, a15, a16, a17, a18, a19, a20, a21) 0 := by
  have c : ¬ a18 0 = a1 (nI q).toNatClampNeg := by
    rw [e18, pk_cl q, h1]
    decide
  have x : nI q * 10 + a18 0 = nI (q * 10) := by
    rw [e18]
    exact rq_m10 q hq
  exact ⟨pk_in 0 8 (by omega), nm_r (e' := nI q) e16 ⟨pk_in 0 8 (by omega), pk_in q 9 (by omega), br_f c ⟨pk_in 0 8 (by omega), nm_r (e' := nI (q * 10)) x ⟨pk_in (q * 10) 90 (by omega), nm_r (e' := 0) (h2 _) (br_f (by decide) (br_f (by decide) (br_t rfl ⟨pk_in (q * 10) 90 (by omega), pk_in 0 96 (by omega), nm_e (nm_r (e' := 1) (by decide) (rq_219 (H _ _ (pk_us.trans (by rw [e18]; decide)) (pk_us.trans (h3 _)))))⟩)))⟩⟩⟩⟩
theorem rq_end49 {post : St2 → Prop} {q : Nat} (hq : q < 8) (h9 : ∀ j, a9 j = 0) (h14 : ∀ j, a14 j = 0)
    (H : ∀ b7 b8 b9 b10 b13 : Nat → Int32, (∀ j, b9 j = 0) → post (ht, rv, sc, 0, tp, fl, a1, a2, a3, a4, a5, a6, b7, b8, b9, b10, a11, a12, b13, a14, a15, a16, a17, a18, a19, a20, a21)) : wX_endWork_49 post (nI q) 0 ht rv sc 1 tp fl a1 a2 a3 a4 a5 a6 a7 a8 a9 a10 a11 a12 a13 a14 a15 a16 a17 a18 a19 a20 a21 :=
  ⟨pk_in q 8 hq, nm_e ⟨pk_in q 8 hq, nm_e ⟨pk_in q 8 hq, nm_e ⟨pk_in q 8 hq, nm_e (rq_all hq h14 ⟨pk_in q 8 hq, nm_e (nm_r (e' := 0) (by decide) (H _ _ _ _ _ (rq_u0 h9 _)))⟩)⟩⟩⟩⟩
theorem rq_work2 {post : St2 → Prop} {q : Nat} (hq : q < 8) (e16 : a16 0 = nI q) (e18 : a18 0 = 1) (h1 : a1 q = 1) (e19 : a19 0 = 0) (h9 : ∀ j, a9 j = 0) (h14 : ∀ j, a14 j = 0)
    (H : ∀ b7 b8 b9 b10 b11 b13 : Nat → Int32, (∀ j, b9 j = 0) → post (ht, rv, sc, 0, 0, fl, a1, a2, a3, a4, a5, a6, b7, b8, b9, b10, b11, a12, b13, a14, a15, a16, a17, a18, a19, a20, a21)) : wpX_workStep post (ht, rv, sc, 1, 1, fl, a1, a2, a3, a4, a5, a6, a7, a8, a9, a10, a11, a12, a13, a14, a15, a16, a17, a18, a19, a20, a21) 0 := by
  have c : a18 0 = a1 (nI q).toNatClampNeg := by
    rw [e18, pk_cl q, h1]
  exact ⟨pk_in 0 8 (by omega), nm_r (e' := nI q) e16 ⟨pk_in 0 8 (by omega), pk_in q 9 (by omega), br_t c (nm_r (e' := 0) (by decide) ⟨pk_in 0 96 (by omega), nm_r (e' := 0) e19 ⟨pk_in q 8 hq,
    br_c (fun _ => ⟨pk_in q 8 hq, nm_e (rq_end49 hq h9 h14 (fun b7 b8 b9 b10 b13 g => H b7 b8 b9 b10 _ b13 g))⟩)
      (fun _ => ⟨pk_in q 8 hq, br_c (fun _ => rq_end49 hq h9 h14 (fun b7 b8 b9 b10 b13 g => H b7 b8 b9 b10 _ b13 g)) (fun _ => ⟨pk_in q 8 hq, nm_e (rq_end49 hq h9 h14 (fun b7 b8 b9 b10 b13 g => H b7 b8 b9 b10 _ b13 g))⟩)⟩)⟩⟩)⟩⟩
/-! ensure -/
theorem rq_e0 {post : Int32 → St2 → Prop} {x1 x2 : Int32} (n : Nat) (H : post 1 (ht, rv, sc, 0, tp, 0, a1, a2, a3, a4, a5, a6, a7, a8, a9, a10, a11, a12, a13, a14, a15, a16, a17, a18, a19, a20, a21)) : wX_ensure_30 post x1 (n + 1) x2 ht rv sc 0 tp 0 a1 a2 a3 a4 a5 a6 a7 a8 a9 a10 a11 a12 a13 a14 a15 a16 a17 a18 a19 a20 a21 :=
  br_c (fun _ => br_t rfl (br_t rfl H)) (fun _ => br_t (by decide) (br_t rfl (br_t rfl H)))
theorem rq_eB {post : Int32 → St2 → Prop} {x1 : Int32} {q : Nat} (hq : q < 8) (e16 : a16 0 = nI q) (e17 : a17 0 = 0) (e18 : a18 0 = 0) (h14 : ∀ j, a14 j = 0)
    (H : ∀ b10 b13 : Nat → Int32, post 1 (ht, rv, sc, 0, tp, 0, a1, a2, a3, a4, a5, a6, a7, a8, a9, b10, a11, a12, b13, a14, a15, a16, a17, a18, a19, a20, a21)) : wX_ensure_30 post x1 2 0 ht rv sc 1 tp 0 a1 a2 a3 a4 a5 a6 a7 a8 a9 a10 a11 a12 a13 a14 a15 a16 a17 a18 a19 a20 a21 :=
  br_f (by decide) (br_f (by decide) (br_t rfl (nm_r (e' := 0) (by decide) ⟨pk_in 0 8 (by omega), br_t e17 (rq_check hq e16 e18 h14 (fun b10 b13 => nm_e (rq_e0 0 (H b10 b13))))⟩)))
theorem rq_eC2 {post : Int32 → St2 → Prop} {x1 : Int32} {q : Nat} (hq : q < 8) (e16 : a16 0 = nI q) (e17 : a17 0 = 1) (e18 : a18 0 = 1) (h1 : a1 q = 1) (e19 : a19 0 = 0) (h9 : ∀ j, a9 j = 0) (h14 : ∀ j, a14 j = 0)
    (H : ∀ b7 b8 b9 b10 b11 b13 : Nat → Int32, (∀ j, b9 j = 0) → post 1 (ht, rv, sc, 0, 0, 0, a1, a2, a3, a4, a5, a6, b7, b8, b9, b10, b11, a12, b13, a14, a15, a16, a17, a18, a19, a20, a21)) : wX_ensure_30 post x1 2 1 ht rv sc 1 1 0 a1 a2 a3 a4 a5 a6 a7 a8 a9 a10 a11 a12 a13 a14 a15 a16 a17 a18 a19 a20 a21 := by
  have c : ¬ a17 0 = 0 := by
    rw [e17]
    decide
  exact br_f (by decide) (br_f (by decide) (br_t rfl (nm_r (e' := 0) (by decide) ⟨pk_in 0 8 (by omega), br_f c (rq_work2 hq e16 e18 h1 e19 h9 h14 (fun b7 b8 b9 b10 b11 b13 g => nm_e (rq_e0 0 (H b7 b8 b9 b10 b11 b13 g))))⟩)))
theorem rq_eC {post : Int32 → St2 → Prop} {x1 : Int32} {q : Nat} (hq : q < 8) (e16 : a16 0 = nI q) (e17 : a17 0 = 1) (e18 : a18 0 = 0) (h1 : a1 q = 1) (h2 : ∀ j, a2 j = 0) (h3 : ∀ j, a3 j = 0) (h9 : ∀ j, a9 j = 0) (h14 : ∀ j, a14 j = 0)
    (H : ∀ b7 b8 b9 b10 b11 b13 b18 b19 : Nat → Int32, (∀ j, b9 j = 0) → post 1 (ht, rv, sc, 0, 0, 0, a1, a2, a3, a4, a5, a6, b7, b8, b9, b10, b11, a12, b13, a14, a15, a16, a17, b18, b19, a20, a21)) : wX_ensure_30 post x1 3 0 ht rv sc 1 0 0 a1 a2 a3 a4 a5 a6 a7 a8 a9 a10 a11 a12 a13 a14 a15 a16 a17 a18 a19 a20 a21 := by
  have c : ¬ a17 0 = 0 := by
    rw [e17]
    decide
  exact br_f (by decide) (br_f (by decide) (br_t rfl (nm_r (e' := 0) (by decide) ⟨pk_in 0 8 (by omega), br_f c (rq_work1 hq e16 e18 h1 h2 h3 (fun b18 b19 g18 g19 => nm_r (e' := 1) (by decide) (rq_eC2 hq e16 e17 g18 h1 g19 h9 h14 (fun b7 b8 b9 b10 b11 b13 g => H b7 b8 b9 b10 b11 b13 b18 b19 g))))⟩)))
theorem rq_ensure {post : Int32 → St2 → Prop} {q : Nat} (hq : q < 8) (J : rq_J rv a1 a2 a3 a9 a12 a14)
    (H : ∀ b7 b8 b9 b10 b11 b13 b14 b16 b17 b18 b19 : Nat → Int32, rq_J rv a1 a2 a3 b9 a12 b14 → post 1 (ht, rv, sc, 0, 0, 0, a1, a2, a3, a4, a5, a6, b7, b8, b9, b10, b11, a12, b13, b14, a15, b16, b17, b18, b19, a20, a21)) :
    wpX_ensure post (ht, rv, sc, fr, tp, fl, a1, a2, a3, a4, a5, a6, a7, a8, a9, a10, a11, a12, a13, a14, a15, a16, a17, a18, a19, a20, a21) (nI q) := by
  obtain ⟨hr, h1, h2, h3, h9, h12, h14⟩ := J
  unfold wpX_ensure
  refine rq_fresh hq ?_ ?_
  rotate_left 1
  · exact br_f (by decide) ⟨1, rq_e0 0 (H _ _ _ _ _ _ _ _ _ _ _ ⟨hr, h1, h2, h3, h9, h12, h14⟩)⟩
  refine br_t rfl ?_
  refine rq_request hq hr h12 h14 (fun b10 => ?_) (fun b16 b17 b18 g16 g17 g18 => ?_) (fun b8 b14 b16 b17 b18 g16 g17 g18 g14 => ?_)
  · exact ⟨1, rq_e0 0 (H _ _ _ _ _ _ _ _ _ _ _ ⟨hr, h1, h2, h3, h9, h12, h14⟩)⟩
  · exact ⟨2, rq_eB hq g16 g17 g18 h14 (fun b10 b13 => H _ _ _ _ _ _ _ _ _ _ _ ⟨hr, h1, h2, h3, h9, h12, h14⟩)⟩
  · exact ⟨3, rq_eC hq g16 g17 g18 (h1 q hq) h2 h3 h9 g14 (fun b7 b8' b9 b10 b11 b13 b18' b19 g => H _ _ _ _ _ _ _ _ _ _ _ ⟨hr, h1, h2, h3, g, h12, g14⟩)⟩
end
end
section
section
variable {ht rv sc fr tp fl : Int32} {a1 a2 a3 a4 a5 a6 a7 a8 a9 a10 a11 a12 a13 a14 a15 a16 a17 a18 a19 a20 a21 : Nat → Int32}
/-! ranges -/
def rq_in (x n : Int32) : Prop := ¬ x < 0 ∧ ¬ n < x
theorem rq_8 {x : Int32} : x < 8 ↔ ¬ 7 < x := by
  rw [Int32.lt_iff_toInt_lt, Int32.lt_iff_toInt_lt]
  have e8 : (8 : Int32).toInt = 8 := rfl
  have e7 : (7 : Int32).toInt = 7 := rfl
  omega
theorem rq_6 {x : Int32} : x < 6 ↔ ¬ 5 < x := by
  rw [Int32.lt_iff_toInt_lt, Int32.lt_iff_toInt_lt]
  have e6 : (6 : Int32).toInt = 6 := rfl
  have e5 : (5 : Int32).toInt = 5 := rfl
  omega
theorem rq_3 {x : Int32} : x ≤ 3 ↔ ¬ 3 < x := by
  rw [Int32.lt_iff_toInt_lt, Int32.le_iff_toInt_le]
  omega
theorem rq_nI {x n : Int32} {N : Nat} (hn : n.toInt = N) (h : rq_in x n) : ∃ j : Nat, j ≤ N ∧ x = nI j := by
  refine nI_of2 hn h.1 ?_
  have h2 := h.2
  rw [Int32.lt_iff_toInt_lt] at h2
  rw [Int32.le_iff_toInt_le]
  omega
theorem rq_fill {s : Nat → Int32} {i k : Nat} {x c : Int32} (hk : k = i) (h : ∀ j, j < i → s j = c) (hx : x = c) : ∀ j, j < i + 1 → upd s k x j = c := by
  intro j hj
  rw [hk]
  by_cases e : j = i
  · rw [e, pk_us, hx]
  · rw [pk_un e]
    exact h j (by omega)
/-! set, and the draft's methods on an empty draft -/
theorem rq_set {post : Int32 → St2 → Prop} {i v : Int32}
    (H : ∀ (r rv' sc' : Int32) (b5 b6 : Nat → Int32), (rv' = rv ∨ rv' = rv + 1) → (¬ rq_in i 5 → r = -1) → (rq_in i 5 → a5 i.toNatClampNeg = v → r = 0) → (rq_in i 5 → ¬ a5 i.toNatClampNeg = v → r = 1) → post r (ht, rv', sc', fr, tp, fl, a1, a2, a3, a4, b5, b6, a7, a8, a9, a10, a11, a12, a13, a14, a15, a16, a17, a18, a19, a20, a21)) :
    wpX_set post (ht, rv, sc, fr, tp, fl, a1, a2, a3, a4, a5, a6, a7, a8, a9, a10, a11, a12, a13, a14, a15, a16, a17, a18, a19, a20, a21) i v := by
  have H0 : ¬ rq_in i 5 → post (-1) (ht, rv, sc, fr, tp, fl, a1, a2, a3, a4, a5, a6, a7, a8, a9, a10, a11, a12, a13, a14, a15, a16, a17, a18, a19, a20, a21) := fun n => H (-1) _ _ _ _ (Or.inl rfl) (fun _ => rfl) (fun g => absurd g n) (fun g => absurd g n)
  refine br_c (fun z => H0 (fun g => g.1 z)) (fun z => br_c (fun y => ?_) (fun y => H0 (fun g => y (rq_6.mpr g.2))))
  have g : rq_in i 5 := ⟨z, rq_6.mp y⟩
  have k : vp_in i 6 := by
    obtain ⟨j, hj, rfl⟩ := rq_nI (N := 5) rfl g
    exact pk_in j 6 (by omega)
  have H2 : ¬ a5 i.toNatClampNeg = v → ∀ (sc' : Int32) (b5 b6 : Nat → Int32), post 1 (ht, rv + 1, sc', fr, tp, fl, a1, a2, a3, a4, b5, b6, a7, a8, a9, a10, a11, a12, a13, a14, a15, a16, a17, a18, a19, a20, a21) := fun e sc' b5 b6 => H 1 _ _ _ _ (Or.inr rfl) (fun n => absurd g n) (fun _ e' => absurd e' e) (fun _ _ => rfl)
  exact ⟨k, br_c (fun e => H 0 _ _ _ _ (Or.inl rfl) (fun n => absurd g n) (fun _ _ => rfl) (fun _ e' => absurd e e')) (fun e => ⟨k, nm_e (nm_e ⟨k, nm_e (br_c (fun _ => H2 e _ _ _) (fun _ => H2 e _ _ _))⟩)⟩)⟩
theorem rq_bad {post : Int32 → Prop} {x : Int32} (H0 : rq_in x 7 → post 0) (H1 : ¬ rq_in x 7 → post 1) : wpX_badQuery post (ht, rv, sc, fr, tp, fl, a1, a2, a3, a4, a5, a6, a7, a8, a9, a10, a11, a12, a13, a14, a15, a16, a17, a18, a19, a20, a21) x :=
  br_c (fun z => H1 (fun g => g.1 z)) (fun z => br_c (fun y => H0 ⟨z, rq_8.mp y⟩) (fun y => H1 (fun g => y (rq_8.mpr g.2))))
theorem rq_full {post : Int32 → Prop} (h : a1 8 = 0) (H : post 0) : wpX_draftFull post (ht, rv, sc, fr, tp, fl, a1, a2, a3, a4, a5, a6, a7, a8, a9, a10, a11, a12, a13, a14, a15, a16, a17, a18, a19, a20, a21) :=
  br_f (by rw [h]; decide) H
theorem rq_choose {post : Int32 → St2 → Prop} {k m : Int32} (h8 : a1 8 = 0)
    (H : ∀ r : Int32, (rq_in k 7 ∧ rq_in m 7 → r = -3) → (¬ (rq_in k 7 ∧ rq_in m 7) → r = -1) → post r (0, rv, sc, fr, tp, fl, a1, a2, a3, a4, a5, a6, a7, a8, a9, a10, a11, a12, a13, a14, a15, a16, a17, a18, a19, a20, a21)) : wpX_choose post (0, rv, sc, fr, tp, fl, a1, a2, a3, a4, a5, a6, a7, a8, a9, a10, a11, a12, a13, a14, a15, a16, a17, a18, a19, a20, a21) k m := by
  unfold wpX_choose
  exact rq_bad (fun gk => br_t rfl (rq_bad (fun gm => br_t rfl (rq_full h8 (br_t rfl (br_f (by decide) (H (-3) (fun _ => rfl) (fun n => absurd ⟨gk, gm⟩ n)))))) (fun nm => br_f (by decide) (H (-1) (fun g => absurd g.2 nm) (fun _ => rfl))))) (fun nk => br_f (by decide) (H (-1) (fun g => absurd g.1 nk) (fun _ => rfl)))
theorem rq_apply {post : Int32 → St2 → Prop} {op : Int32} (h8 : a1 8 = 0)
    (H : ∀ r : Int32, (rq_in op 3 → r = -3) → (¬ rq_in op 3 → r = -1) → post r (0, rv, sc, fr, tp, fl, a1, a2, a3, a4, a5, a6, a7, a8, a9, a10, a11, a12, a13, a14, a15, a16, a17, a18, a19, a20, a21)) : wpX_apply post (0, rv, sc, fr, tp, fl, a1, a2, a3, a4, a5, a6, a7, a8, a9, a10, a11, a12, a13, a14, a15, a16, a17, a18, a19, a20, a21) op :=
  br_c (fun z => H (-1) (fun g => absurd z g.1) (fun _ => rfl)) (fun z => br_c (fun y => rq_full h8 (br_t rfl (br_f (by decide) (H (-3) (fun _ => rfl) (fun n => absurd ⟨z, rq_3.mp y⟩ n))))) (fun y => H (-1) (fun g => absurd (rq_3.mpr g.2) y) (fun _ => rfl)))
theorem rq_finish {post : Int32 → St2 → Prop} {k : Int32}
    (H : ∀ r : Int32, (rq_in k 7 → r = -3) → (¬ rq_in k 7 → r = -1) → post r (0, rv, sc, fr, tp, fl, a1, a2, a3, a4, a5, a6, a7, a8, a9, a10, a11, a12, a13, a14, a15, a16, a17, a18, a19, a20, a21)) : wpX_finish post (0, rv, sc, fr, tp, fl, a1, a2, a3, a4, a5, a6, a7, a8, a9, a10, a11, a12, a13, a14, a15, a16, a17, a18, a19, a20, a21) k := by
  unfold wpX_finish
  exact rq_bad (fun g => br_t rfl (br_f (by decide) (H (-3) (fun _ => rfl) (fun n => absurd g n)))) (fun n => br_f (by decide) (H (-1) (fun g => absurd g n) (fun _ => rfl)))
/-! needs -/
theorem rq_direct {post : Int32 → Prop} {q : Nat} (hq : q < 8) (h14 : ∀ j, a14 j = 0) (H : post 0) : wpX_directNeeds post (ht, rv, sc, fr, tp, fl, a1, a2, a3, a4, a5, a6, a7, a8, a9, a10, a11, a12, a13, a14, a15, a16, a17, a18, a19, a20, a21) (nI q) :=
  ⟨1, pk_in q 8 hq, br_t (by rw [h14]; decide) H⟩
theorem rq_bit : ∀ i, i < 8 → ¬ ((0 : Int32) >>> ((6 + nI i) &&& 31)) &&& 1 = 1 := by decide +kernel
theorem rq_42 {post : Int32 → St2 → Prop} {J : Int32 → Int32 → Prop} {x4 : Int32} (H : J 0 (x4 + 1)) : ∃ n, wX_needs_42 post J x4 ht rv sc fr tp fl a1 a2 a3 a4 a5 a6 a7 a8 a9 a10 a11 a12 a13 a14 a15 a16 a17 a18 a19 a20 a21 n 0 0 :=
  pk_loop (σ := Unit) (fun n i _ => wX_needs_42 post J x4 ht rv sc fr tp fl a1 a2 a3 a4 a5 a6 a7 a8 a9 a10 a11 a12 a13 a14 a15 a16 a17 a18 a19 a20 a21 n 0 (nI i)) (fun _ _ => True) 8 0 () (by omega) trivial
    (fun n _ _ => pk_le 8 8 (fun _ => nm_e H) (fun z => absurd z (by omega)))
    (fun n i _ hi _ hw => pk_le 8 i (fun z => absurd z (by omega)) (fun _ => br_f (rq_bit i hi) (nm_r (nI_1 i) (hw () trivial))))
theorem rq_32 {post : Int32 → St2 → Prop} (H : post 0 (ht, rv, sc, fr, tp, fl, a1, a2, a3, a4, a5, a6, a7, a8, a9, a10, a11, a12, a13, a14, a15, a16, a17, a18, a19, a20, a21)) : ∃ n, wX_needs_32 post ht rv sc fr tp fl a1 a2 a3 a4 a5 a6 a7 a8 a9 a10 a11 a12 a13 a14 a15 a16 a17 a18 a19 a20 a21 n 0 0 :=
  pk_loop (σ := Unit) (fun n i _ => wX_needs_32 post ht rv sc fr tp fl a1 a2 a3 a4 a5 a6 a7 a8 a9 a10 a11 a12 a13 a14 a15 a16 a17 a18 a19 a20 a21 n 0 (nI i)) (fun _ _ => True) 8 0 () (by omega) trivial
    (fun n _ _ => pk_le 8 8 (fun _ => H) (fun z => absurd z (by omega)))
    (fun n i _ hi _ hw => pk_le 8 i (fun z => absurd z (by omega)) (fun _ => rq_42 (by rw [nI_1 i]; exact hw () trivial)))
theorem rq_needs {post : Int32 → St2 → Prop} {k : Int32} (J : rq_J rv a1 a2 a3 a9 a12 a14)
    (H : ∀ (r fr tp fl : Int32) (b7 b8 b9 b10 b11 b13 b14 b16 b17 b18 b19 : Nat → Int32), rq_J rv a1 a2 a3 b9 a12 b14 → (rq_in k 7 → r = 0) → (¬ rq_in k 7 → r = -1) → post r (ht, rv, sc, fr, tp, fl, a1, a2, a3, a4, a5, a6, b7, b8, b9, b10, b11, a12, b13, b14, a15, b16, b17, b18, b19, a20, a21)) :
    wpX_needs post (ht, rv, sc, fr, tp, fl, a1, a2, a3, a4, a5, a6, a7, a8, a9, a10, a11, a12, a13, a14, a15, a16, a17, a18, a19, a20, a21) k := by
  unfold wpX_needs
  refine rq_bad (fun g => br_t rfl ?_) (fun n => br_f (by decide) (H (-1) _ _ _ _ _ _ _ _ _ _ _ _ _ _ J (fun g => absurd g n) (fun _ => rfl)))
  obtain ⟨q, hq, rfl⟩ := rq_nI (N := 7) rfl g
  exact rq_ensure (by omega) J (fun b7 b8 b9 b10 b11 b13 b14 b16 b17 b18 b19 J' => br_f (by decide) (rq_direct (by omega) J'.2.2.2.2.2.2 (rq_32 (H 0 _ _ _ _ _ _ _ _ _ _ _ _ _ _ J' (fun _ => rfl) (fun n => absurd g n)))))
end
/-! stirred: two rounds over the eight queries, with a set between and one behind -/
theorem rq_81 {post : Int32 → St2 → Prop} {x1 x3 : Int32} (H : ∀ (ht rv sc fr tp fl : Int32) (a1 a2 a3 a4 a5 a6 a7 a8 a9 a10 a11 a12 a13 a14 a15 a16 a17 a18 a19 a20 a21 : Nat → Int32), post 0 (ht, rv, sc, fr, tp, fl, a1, a2, a3, a4, a5, a6, a7, a8, a9, a10, a11, a12, a13, a14, a15, a16, a17, a18, a19, a20, a21)) : ∀ (d i : Nat), i + d = 8 → ∀ (ht rv sc fr tp fl : Int32) (a1 a2 a3 a4 a5 a6 a7 a8 a9 a10 a11 a12 a13 a14 a15 a16 a17 a18 a19 a20 a21 : Nat → Int32), rq_J rv a1 a2 a3 a9 a12 a14 → (∀ j, j < 8 → a20 j = 0) → (∀ j, j < 8 → a21 j = 0) → wX_stirred_81 post x1 x3 (d + 1) 0 (nI i) ht rv sc fr tp fl a1 a2 a3 a4 a5 a6 a7 a8 a9 a10 a11 a12 a13 a14 a15 a16 a17 a18 a19 a20 a21 := by
  intro d
  induction d with
  | zero =>
    intro i hi ht rv sc fr tp fl a1 a2 a3 a4 a5 a6 a7 a8 a9 a10 a11 a12 a13 a14 a15 a16 a17 a18 a19 a20 a21 J h20 h21
    exact pk_le 8 i (fun _ => rq_set (fun _ _ _ _ _ _ _ _ _ => H _ _ _ _ _ _ _ _ _ _ _ _ _ _ _ _ _ _ _ _ _ _ _ _ _ _ _)) (fun z => absurd z (by omega))
  | succ d ih =>
    intro i hi ht rv sc fr tp fl a1 a2 a3 a4 a5 a6 a7 a8 a9 a10 a11 a12 a13 a14 a15 a16 a17 a18 a19 a20 a21 J h20 h21
    have c : ¬ a21 (nI i).toNatClampNeg = 1 := by
      rw [pk_cl i, h21 i (by omega)]
      decide
    refine pk_le 8 i (fun z => absurd z (by omega)) (fun _ => rq_ensure (by omega) J (fun b7 b8 b9 b10 b11 b13 b14 b16 b17 b18 b19 J' => ?_))
    have e : a20 (nI i).toNatClampNeg = b9 (nI i).toNatClampNeg := by
      rw [J'.2.2.2.2.1, pk_cl i, h20 i (by omega)]
    exact ⟨pk_in i 8 (by omega), br_f c (br_f (by decide) ⟨pk_in i 8 (by omega), pk_in i 8 (by omega), br_t e (nm_r (nI_1 i) (ih (i + 1) (by omega) _ _ _ _ _ _ _ _ _ _ _ _ _ _ _ _ _ _ _ _ _ _ _ _ _ _ _ J' h20 h21))⟩)⟩
theorem rq_14 {post : Int32 → St2 → Prop} {x1 v : Int32} (g : rq_in x1 5) (H : ∀ (ht rv sc fr tp fl : Int32) (a1 a2 a3 a4 a5 a6 a7 a8 a9 a10 a11 a12 a13 a14 a15 a16 a17 a18 a19 a20 a21 : Nat → Int32), post 0 (ht, rv, sc, fr, tp, fl, a1, a2, a3, a4, a5, a6, a7, a8, a9, a10, a11, a12, a13, a14, a15, a16, a17, a18, a19, a20, a21)) : ∀ (d i : Nat), i + d = 8 → ∀ (ht rv sc fr tp fl : Int32) (a1 a2 a3 a4 a5 a6 a7 a8 a9 a10 a11 a12 a13 a14 a15 a16 a17 a18 a19 a20 a21 : Nat → Int32), rq_J rv a1 a2 a3 a9 a12 a14 → rv + 1 ≠ 0 → (∀ j, j < i → a20 j = 0) → (∀ j, j < i → a21 j = 0) → wX_stirred_14 post x1 v (d + 1) (nI i) ht rv sc fr tp fl a1 a2 a3 a4 a5 a6 a7 a8 a9 a10 a11 a12 a13 a14 a15 a16 a17 a18 a19 a20 a21 := by
  intro d
  induction d with
  | zero =>
    intro i hi ht rv sc fr tp fl a1 a2 a3 a4 a5 a6 a7 a8 a9 a10 a11 a12 a13 a14 a15 a16 a17 a18 a19 a20 a21 J hr h20 h21
    have hi8 : i = 8 := by omega
    subst hi8
    have k : vp_in x1 6 := by
      obtain ⟨j, hj, rfl⟩ := rq_nI (N := 5) rfl g
      exact pk_in j 6 (by omega)
    refine pk_le 8 8 (fun _ => ⟨k, nm_e (rq_set (fun r rv' sc' b5 b6 e _ _ _ => ⟨9, rq_81 H 8 0 (by omega) _ _ _ _ _ _ _ _ _ _ _ _ _ _ _ _ _ _ _ _ _ _ _ _ _ _ _ ⟨?_, J.2⟩ h20 h21⟩))⟩) (fun z => absurd z (by omega))
    rcases e with e | e
    · rw [e]
      exact J.1
    · rw [e]
      exact hr
  | succ d ih =>
    intro i hi ht rv sc fr tp fl a1 a2 a3 a4 a5 a6 a7 a8 a9 a10 a11 a12 a13 a14 a15 a16 a17 a18 a19 a20 a21 J hr h20 h21
    exact pk_le 8 i (fun z => absurd z (by omega)) (fun _ => rq_ensure (by omega) J (fun b7 b8 b9 b10 b11 b13 b14 b16 b17 b18 b19 J' =>
      br_f (by decide) ⟨pk_in i 8 (by omega), nm_e ⟨pk_in i 8 (by omega), pk_in i 8 (by omega), nm_e (nm_r (nI_1 i) (ih (i + 1) (by omega) _ _ _ _ _ _ _ _ _ _ _ _ _ _ _ _ _ _ _ _ _ _ _ _ _ _ _ J' hr (rq_fill (pk_cl i) h20 (J'.2.2.2.2.1 _)) (rq_fill (pk_cl i) h21 (by rfl))))⟩⟩))
section
variable {ht rv sc fr tp fl : Int32} {a1 a2 a3 a4 a5 a6 a7 a8 a9 a10 a11 a12 a13 a14 a15 a16 a17 a18 a19 a20 a21 : Nat → Int32}
theorem rq_stirred {post : Int32 → St2 → Prop} {i v : Int32} (J : rq_J rv a1 a2 a3 a9 a12 a14) (hr : rv + 1 ≠ 0)
    (H : ∀ (r : Int32) (ht rv sc fr tp fl : Int32) (a1 a2 a3 a4 a5 a6 a7 a8 a9 a10 a11 a12 a13 a14 a15 a16 a17 a18 a19 a20 a21 : Nat → Int32), (rq_in i 5 → r = 0) → (¬ rq_in i 5 → r = -1) → post r (ht, rv, sc, fr, tp, fl, a1, a2, a3, a4, a5, a6, a7, a8, a9, a10, a11, a12, a13, a14, a15, a16, a17, a18, a19, a20, a21)) : wpX_stirred post (ht, rv, sc, fr, tp, fl, a1, a2, a3, a4, a5, a6, a7, a8, a9, a10, a11, a12, a13, a14, a15, a16, a17, a18, a19, a20, a21) i v :=
  br_c (fun z => H (-1) _ _ _ _ _ _ _ _ _ _ _ _ _ _ _ _ _ _ _ _ _ _ _ _ _ _ _ (fun g => absurd z g.1) (fun _ => rfl)) (fun z => br_c
    (fun y => ⟨9, rq_14 ⟨z, rq_6.mp y⟩ (fun (ht rv sc fr tp fl : Int32) (a1 a2 a3 a4 a5 a6 a7 a8 a9 a10 a11 a12 a13 a14 a15 a16 a17 a18 a19 a20 a21 : Nat → Int32) => H 0 _ _ _ _ _ _ _ _ _ _ _ _ _ _ _ _ _ _ _ _ _ _ _ _ _ _ _ (fun _ => rfl) (fun n => absurd ⟨z, rq_6.mp y⟩ n)) 8 0 (by omega) _ _ _ _ _ _ _ _ _ _ _ _ _ _ _ _ _ _ _ _ _ _ _ _ _ _ _ J hr (fun j hj => absurd hj (by omega)) (fun j hj => absurd hj (by omega))⟩)
    (fun y => H (-1) _ _ _ _ _ _ _ _ _ _ _ _ _ _ _ _ _ _ _ _ _ _ _ _ _ _ _ (fun g => absurd (rq_6.mpr g.2) y) (fun _ => rfl)))
end
/-! the constructor -/
abbrev rq_Z : Nat → Int32 := fun _ => 0
theorem rq_init {post : St2 → Prop} (H : ∀ b1 b8 : Nat → Int32, (∀ q, q < 8 → b1 q = 1) → b1 8 = 0 → post (0, 1, 0, 0, 0, 0, b1, rq_Z, rq_Z, rq_Z, rq_Z, rq_Z, rq_Z, b8, rq_Z, rq_Z, rq_Z, rq_Z, rq_Z, rq_Z, rq_Z, rq_Z, rq_Z, rq_Z, rq_Z, rq_Z, rq_Z)) : wpX_init post 21 571 (0, 0, 0, 0, 0, 0) := by
  refine ⟨by omega, by omega, by omega, by omega, by omega, by omega, by omega, by omega, by omega, by omega, by omega, by omega, by omega, by omega, by omega, by omega, by omega, by omega, by omega, by omega, by omega, by omega, by omega, by omega, by omega, by omega, by omega, by omega, by omega, by omega, by omega, by omega, by omega, by omega, by omega, by omega, by omega, by omega, by omega, by omega, by omega, by omega, ?_⟩
  exact pk_loop (σ := (Nat → Int32) × (Nat → Int32)) (fun n i s => wX_init_179 post 21 571 21 571 0 1 0 0 0 0 n (nI i) s.1 rq_Z rq_Z rq_Z rq_Z rq_Z rq_Z s.2 rq_Z rq_Z rq_Z rq_Z rq_Z rq_Z rq_Z rq_Z rq_Z rq_Z rq_Z rq_Z rq_Z)
    (fun i s => (∀ j, j < i → s.1 j = 1) ∧ s.1 8 = 0) 8 0 (rq_Z, rq_Z) (by omega) ⟨fun j hj => absurd hj (by omega), rfl⟩
    (fun n s h => pk_le 8 8 (fun _ => H s.1 s.2 h.1 h.2) (fun z => absurd z (by omega)))
    (fun n i s hi h hw => pk_le 8 i (fun z => absurd z (by omega)) (fun _ => ⟨pk_in i 9 (by omega), nm_r (e' := upd s.1 i 1) (by rw [pk_cl i]) ⟨pk_in i 8 (by omega), nm_e (nm_r (nI_1 i) (hw (upd s.1 i 1, _) ⟨rq_fill rfl h.1 rfl, (pk_un (by omega)).trans h.2⟩))⟩⟩))
end
section
/-! the law's own checks, from the last to the first -/
section
variable {post : Int32 → St0 → Prop} {mc ms kc ks : Nat} {i v k m op s c ap d n st x12 x13 z0 z1 : Int32}
theorem rq_208 (h : z1 = z0) (H : post 1 ()) : wL_lawOf_208 post mc ms z0 z1 kc ks := br_t h H
theorem rq_193 (h : z1 = z0) (T0 : x12 = 0 → st = -1) (T1 : ¬ x12 = 0 → st = 0) (H : post 1 ()) : wL_lawOf_193 post mc ms st x12 z0 z1 kc ks :=
  br_t h (br_c (fun z => rq_208 (T0 z) H) (fun z => rq_208 (T1 z) H))
theorem rq_178 (h : z1 = z0) (N0 : x13 = 0 → n = -1) (N1 : ¬ x13 = 0 → n = 0) (T0 : x12 = 0 → st = -1) (T1 : ¬ x12 = 0 → st = 0) (H : post 1 ()) : wL_lawOf_178 post mc ms n st x12 x13 z0 z1 kc ks :=
  br_t h (br_c (fun z => rq_193 (N0 z) T0 T1 H) (fun z => rq_193 (N1 z) T0 T1 H))
theorem rq_162 (h : z1 = z0) (D0 : x13 = 0 → d = -1) (D1 : ¬ x13 = 0 → d = -3) (N0 : x13 = 0 → n = -1) (N1 : ¬ x13 = 0 → n = 0) (T0 : x12 = 0 → st = -1) (T1 : ¬ x12 = 0 → st = 0) (H : post 1 ()) : wL_lawOf_162 post mc ms d n st x12 x13 z0 z1 kc ks :=
  br_t h (br_c (fun z => rq_178 (D0 z) N0 N1 T0 T1 H) (fun z => rq_178 (D1 z) N0 N1 T0 T1 H))
theorem rq_140 (h : z1 = z0) (A0 : ¬ rq_in op 3 → ap = -1) (A1 : rq_in op 3 → ap = -3) (D0 : x13 = 0 → d = -1) (D1 : ¬ x13 = 0 → d = -3) (N0 : x13 = 0 → n = -1) (N1 : ¬ x13 = 0 → n = 0) (T0 : x12 = 0 → st = -1) (T1 : ¬ x12 = 0 → st = 0) (H : post 1 ()) : wL_lawOf_140 post mc ms op ap d n st x12 x13 z0 z1 kc ks :=
  br_t h (br_c (fun z => rq_162 (A0 (fun g => g.1 z)) D0 D1 N0 N1 T0 T1 H) (fun z => br_c (fun y => rq_162 (A0 (fun g => g.2 y)) D0 D1 N0 N1 T0 T1 H) (fun y => rq_162 (A1 ⟨z, y⟩) D0 D1 N0 N1 T0 T1 H)))
theorem rq_114 (h : z1 = z0) (C0 : x13 = 0 → c = -1) (C1 : ¬ x13 = 0 → rq_in m 7 → c = -3) (C2 : ¬ rq_in m 7 → c = -1) (A0 : ¬ rq_in op 3 → ap = -1) (A1 : rq_in op 3 → ap = -3) (D0 : x13 = 0 → d = -1) (D1 : ¬ x13 = 0 → d = -3) (N0 : x13 = 0 → n = -1) (N1 : ¬ x13 = 0 → n = 0) (T0 : x12 = 0 → st = -1) (T1 : ¬ x12 = 0 → st = 0) (H : post 1 ()) : wL_lawOf_114 post mc ms m op c ap d n st x12 x13 z0 z1 kc ks :=
  br_t h (br_c (fun w => rq_140 (C0 w) A0 A1 D0 D1 N0 N1 T0 T1 H) (fun w => br_c (fun z => rq_140 (C2 (fun g => g.1 z)) A0 A1 D0 D1 N0 N1 T0 T1 H) (fun z => br_c (fun y => rq_140 (C2 (fun g => g.2 y)) A0 A1 D0 D1 N0 N1 T0 T1 H) (fun y => rq_140 (C1 w ⟨z, y⟩) A0 A1 D0 D1 N0 N1 T0 T1 H))))
theorem rq_92 (S0 : x12 = 0 → s = -1) (S1 : ¬ x12 = 0 → v = 0 → s = 0) (S2 : ¬ x12 = 0 → ¬ v = 0 → s = 1) (C0 : x13 = 0 → c = -1) (C1 : ¬ x13 = 0 → rq_in m 7 → c = -3) (C2 : ¬ rq_in m 7 → c = -1) (A0 : ¬ rq_in op 3 → ap = -1) (A1 : rq_in op 3 → ap = -3) (D0 : x13 = 0 → d = -1) (D1 : ¬ x13 = 0 → d = -3) (N0 : x13 = 0 → n = -1) (N1 : ¬ x13 = 0 → n = 0) (T0 : x12 = 0 → st = -1) (T1 : ¬ x12 = 0 → st = 0) (H : post 1 ()) : wL_lawOf_92 post mc ms v m op s c ap d n st x12 x13 kc ks :=
  br_c (fun w => rq_114 (S0 w) C0 C1 C2 A0 A1 D0 D1 N0 N1 T0 T1 H) (fun w => br_c (fun y => rq_114 (S1 w y) C0 C1 C2 A0 A1 D0 D1 N0 N1 T0 T1 H) (fun y => rq_114 (S2 w y) C0 C1 C2 A0 A1 D0 D1 N0 N1 T0 T1 H))
theorem rq_75 (S0 : x12 = 0 → s = -1) (S1 : ¬ x12 = 0 → v = 0 → s = 0) (S2 : ¬ x12 = 0 → ¬ v = 0 → s = 1) (C0 : ¬ (rq_in k 7 ∧ rq_in m 7) → c = -1) (C1 : rq_in k 7 ∧ rq_in m 7 → c = -3) (A0 : ¬ rq_in op 3 → ap = -1) (A1 : rq_in op 3 → ap = -3) (D0 : ¬ rq_in k 7 → d = -1) (D1 : rq_in k 7 → d = -3) (N0 : ¬ rq_in k 7 → n = -1) (N1 : rq_in k 7 → n = 0) (T0 : x12 = 0 → st = -1) (T1 : ¬ x12 = 0 → st = 0) (H : post 1 ()) : wL_lawOf_75 post mc ms v k m op s c ap d n st x12 kc ks := by
  have Q0 : ¬ rq_in k 7 → wL_lawOf_92 post mc ms v m op s c ap d n st x12 0 kc ks := fun g =>
    rq_92 S0 S1 S2 (fun _ => C0 (fun h => g h.1)) (fun w => absurd rfl w) (fun h => C0 (fun h' => h h'.2)) A0 A1 (fun _ => D0 g) (fun w => absurd rfl w) (fun _ => N0 g) (fun w => absurd rfl w) T0 T1 H
  have Q1 : rq_in k 7 → wL_lawOf_92 post mc ms v m op s c ap d n st x12 1 kc ks := fun g =>
    rq_92 S0 S1 S2 (fun w => absurd w (by decide)) (fun _ h => C1 ⟨g, h⟩) (fun h => C0 (fun h' => h h'.2)) A0 A1 (fun w => absurd w (by decide)) (fun _ => D1 g) (fun w => absurd w (by decide)) (fun _ => N1 g) T0 T1 H
  exact br_c (fun z => Q0 (fun g => g.1 z)) (fun z => br_c (fun y => Q0 (fun g => g.2 y)) (fun y => Q1 ⟨z, y⟩))
theorem rq_tail (S0 : ¬ rq_in i 5 → s = -1) (S1 : rq_in i 5 → v = 0 → s = 0) (S2 : rq_in i 5 → ¬ v = 0 → s = 1) (C0 : ¬ (rq_in k 7 ∧ rq_in m 7) → c = -1) (C1 : rq_in k 7 ∧ rq_in m 7 → c = -3) (A0 : ¬ rq_in op 3 → ap = -1) (A1 : rq_in op 3 → ap = -3) (D0 : ¬ rq_in k 7 → d = -1) (D1 : rq_in k 7 → d = -3) (N0 : ¬ rq_in k 7 → n = -1) (N1 : rq_in k 7 → n = 0) (T0 : ¬ rq_in i 5 → st = -1) (T1 : rq_in i 5 → st = 0) (H : post 1 ()) :
    (i < 0 → wL_lawOf_74 post mc ms v k m op s c ap d n st kc ks) ∧ (¬ i < 0 → ((5 < i → wL_lawOf_74 post mc ms v k m op s c ap d n st kc ks) ∧ (¬ 5 < i → wL_lawOf_75 post mc ms v k m op s c ap d n st 1 kc ks))) := by
  have Q0 : ¬ rq_in i 5 → wL_lawOf_75 post mc ms v k m op s c ap d n st 0 kc ks := fun g =>
    rq_75 (fun _ => S0 g) (fun w => absurd rfl w) (fun w => absurd rfl w) C0 C1 A0 A1 D0 D1 N0 N1 (fun _ => T0 g) (fun w => absurd rfl w) H
  have Q1 : rq_in i 5 → wL_lawOf_75 post mc ms v k m op s c ap d n st 1 kc ks := fun g =>
    rq_75 (fun w => absurd w (by decide)) (fun _ => S1 g) (fun _ => S2 g) C0 C1 A0 A1 D0 D1 N0 N1 (fun w => absurd w (by decide)) (fun _ => T1 g) H
  exact br_c (fun z => Q0 (fun g => g.1 z)) (fun z => br_c (fun y => Q0 (fun g => g.2 y)) (fun y => Q1 ⟨z, y⟩))
end
theorem rq_lawOf {post : Int32 → St0 → Prop} (i v k m op : Int32) (H : post 1 ()) : wpL_lawOf post 22 598 () i v k m op := by
  refine ⟨by omega, by omega, 21, 571, by omega, by omega, rq_init (fun b1 b8 h1 h8 => rq_set (fun r1 rv' sc' b5 b6 hr S0 S1 S2 => ?_))⟩
  have J : rq_J rv' b1 rq_Z rq_Z rq_Z rq_Z rq_Z := by
    refine ⟨?_, h1, fun _ => rfl, fun _ => rfl, fun _ => rfl, fun _ => rfl, fun _ => rfl⟩
    rcases hr with e | e
    · rw [e]
      decide
    · rw [e]
      decide
  have hr1 : rv' + 1 ≠ 0 := by
    rcases hr with e | e
    · rw [e]
      decide
    · rw [e]
      decide
  exact rq_choose h8 (fun r2 C1 C0 => rq_apply h8 (fun r3 A1 A0 => rq_finish (fun r4 D1 D0 => rq_needs J (fun r5 fr tp fl b7 b8 b9 b10 b11 b13 b14 b16 b17 b18 b19 J' N1 N0 => rq_stirred J' hr1 (fun r6 (ht rv sc fr tp fl : Int32) (a1 a2 a3 a4 a5 a6 a7 a8 a9 a10 a11 a12 a13 a14 a15 a16 a17 a18 a19 a20 a21 : Nat → Int32) T1 T0 =>
    rq_tail S0 (fun g e => S1 g e.symm) (fun g e => S2 g (fun w => e w.symm)) C0 C1 A0 A1 D0 D1 N0 N1 T0 T1 H)))))
theorem rq_cell {P : Int32 → Prop} {L : Nat} {xs : Nat → Int32} {u : St0} (k : Nat) (hk : k < 5) (hL : L ≤ 5) (H : ∀ r, P r) : wpL_cellAt P L xs u (nI k) :=
  pk_le L k (fun _ => H _) (fun h => ⟨pk_in k L h, H _⟩)
theorem i_vc (xs : Nat → Int32) (L : Nat) (hL : L ≤ 5) : wpL_law (fun r => r = 1) L xs :=
  rq_cell 0 (by omega) hL (fun _ => rq_cell 1 (by omega) hL (fun _ => rq_cell 2 (by omega) hL (fun _ => rq_cell 3 (by omega) hL (fun _ => rq_cell 4 (by omega) hL (fun _ => ⟨22, 598, by omega, by omega, rq_lawOf _ _ _ _ _ rfl⟩)))))
end
