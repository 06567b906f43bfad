section
/-! small methods, each once; the state stands as its twenty places -/
section
variable {fc fn fo fw ff ft : Int32} {a1 a2 a3 a4 a5 a6 a7 a8 a9 a10 a11 a12 a13 a14 : Nat → Int32}
/-- what stands at a place: a token t of level l -/
def mx_P (p t l : Int32) (a2 a4 : Nat → Int32) : Prop := vp_in p 16 ∧ a4 p.toNatClampNeg = t ∧ vp_in (t - 10) 8 ∧ a2 (t - 10).toNatClampNeg = l
theorem mx_us {f : Nat → Int32} {i : Int32} {j : Nat} {x : Int32} (h : i.toNatClampNeg = j) : upd f i.toNatClampNeg x j = x := by
  subst h
  exact pk_us
theorem mx_un {f : Nat → Int32} {i : Int32} {j : Nat} {x y : Int32} (h : j ≠ i.toNatClampNeg) (hy : f j = y) : upd f i.toNatClampNeg x j = y := by
  rw [pk_un h]
  exact hy
theorem mx_lv {post : Int32 → Prop} {p t l : Int32} (h : mx_P p t l a2 a4) (H : post l) : wpX_levelAt post (fc, fn, fo, fw, ff, ft, a1, a2, a3, a4, a5, a6, a7, a8, a9, a10, a11, a12, a13, a14) p := by
  obtain ⟨hp, h4, ht, hl⟩ := h
  subst h4 hl
  unfold wpX_levelAt
  exact ⟨hp, ht, H⟩
theorem mx_kd {post : Int32 → Prop} {p t l k : Int32} (h : mx_P p t l a2 a4) (hk : vp_in l 5) (h1 : a1 l.toNatClampNeg = k) (H : post k) : wpX_kindAt post (fc, fn, fo, fw, ff, ft, a1, a2, a3, a4, a5, a6, a7, a8, a9, a10, a11, a12, a13, a14) p := by
  subst h1
  unfold wpX_kindAt
  exact mx_lv h ⟨hk, H⟩
theorem mx_nl {post : Int32 → Prop} {p t l : Int32} (h : mx_P p t l a2 a4) (hk : vp_in l 5) (H : post (l + 1)) (H' : post l) : wpX_needLeft post (fc, fn, fo, fw, ff, ft, a1, a2, a3, a4, a5, a6, a7, a8, a9, a10, a11, a12, a13, a14) p := by
  unfold wpX_needLeft
  exact mx_lv h ⟨hk, nm_e (br_c (fun _ => H) (fun _ => br_c (fun _ => H) (fun _ => H')))⟩
theorem mx_nr {post : Int32 → Prop} {p t l : Int32} (h : mx_P p t l a2 a4) (hk : vp_in l 5) (H : post (l + 1)) (H' : post l) : wpX_needRight post (fc, fn, fo, fw, ff, ft, a1, a2, a3, a4, a5, a6, a7, a8, a9, a10, a11, a12, a13, a14) p := by
  unfold wpX_needRight
  exact mx_lv h ⟨hk, nm_e (br_c (fun _ => H) (fun _ => br_c (fun _ => H) (fun _ => H')))⟩
theorem mx_tf {post : Int32 → Prop} {p t l q : Int32} (h : mx_P p t l a2 a4) (hq : vp_in q 5) (H : post 0) (H' : post 1) : wpX_takesFirst post (fc, fn, fo, fw, ff, ft, a1, a2, a3, a4, a5, a6, a7, a8, a9, a10, a11, a12, a13, a14) p q := by
  unfold wpX_takesFirst
  exact mx_lv h (br_c (fun _ => H') (fun _ => br_c (fun _ => ⟨hq, br_c (fun _ => H) (fun _ => H')⟩) (fun _ => H)))
theorem mx_op1 {post : Int32 → Prop} {t : Int32} (h : ¬ t < 10) (h' : ¬ 18 ≤ t) (H : post 1) : wpX_isOperator post (fc, fn, fo, fw, ff, ft, a1, a2, a3, a4, a5, a6, a7, a8, a9, a10, a11, a12, a13, a14) t := by
  unfold wpX_isOperator
  exact br_f h (br_f h' H)
theorem mx_op0 {post : Int32 → Prop} {t : Int32} (h : t < 10 ∨ 18 ≤ t) (H : post 0) : wpX_isOperator post (fc, fn, fo, fw, ff, ft, a1, a2, a3, a4, a5, a6, a7, a8, a9, a10, a11, a12, a13, a14) t := by
  unfold wpX_isOperator
  exact br_c (fun _ => H) (fun z => br_t (h.resolve_left z) H)
theorem mx_bt {post : Int32 → Prop} {m a b v : Int32} (h : m = 0 ∧ v = a + b ∨ m = 1 ∧ v = a - b) (H : post v) : wpX_between post (fc, fn, fo, fw, ff, ft, a1, a2, a3, a4, a5, a6, a7, a8, a9, a10, a11, a12, a13, a14) m a b := by
  unfold wpX_between
  rcases h with ⟨rfl, rfl⟩ | ⟨rfl, rfl⟩
  · exact br_t rfl H
  · exact br_f (by decide) (br_t rfl H)
theorem mx_al {post : Int32 → Prop} {m a : Int32} (H : ∀ v, post v) : wpX_alone post (fc, fn, fo, fw, ff, ft, a1, a2, a3, a4, a5, a6, a7, a8, a9, a10, a11, a12, a13, a14) m a := by
  unfold wpX_alone
  exact br_c (fun _ => H _) (fun _ => br_c (fun _ => H _) (fun _ => br_c (fun _ => H _) (fun _ => H _)))
/-- a node without operands -/
theorem mx_mk {post : Int32 → St2 → Prop} {p0 p1 p2 p3 p4 n' r : Int32} (hn : vp_in fn 16) (h1 : p1 < 0) (e : fn + 1 = n') (er : n' - 1 = r)
    (H : post r (fc, n', fo, fw, ff, ft, a1, a2, a3, a4, upd a5 fn.toNatClampNeg p0, upd a6 fn.toNatClampNeg p1, upd a7 fn.toNatClampNeg p2, upd a8 fn.toNatClampNeg p3, upd a9 fn.toNatClampNeg p4, upd a10 fn.toNatClampNeg 0, upd a11 fn.toNatClampNeg p0, upd a12 fn.toNatClampNeg p0, a13, a14)) :
    wpX_makeNode post (fc, fn, fo, fw, ff, ft, a1, a2, a3, a4, a5, a6, a7, a8, a9, a10, a11, a12, a13, a14) p0 p1 p2 p3 p4 := by
  subst er
  unfold wpX_makeNode
  exact ⟨hn, nm_e ⟨hn, nm_e ⟨hn, nm_e ⟨hn, nm_e ⟨hn, nm_e ⟨hn, nm_e (br_t h1 ⟨hn, nm_e ⟨hn, nm_e (nm_r e H)⟩⟩)⟩⟩⟩⟩⟩⟩
/-- a node whose first operand begins ahead of it -/
theorem mx_mk2 {post : Int32 → St2 → Prop} {p0 p1 p2 p3 p4 n' r q : Int32} (hn : vp_in fn 16) (h1 : ¬ p1 < 0) (hp : vp_in p1 16) (eq : a11 p1.toNatClampNeg = q) (hq : ¬ p0 ≤ q) (e : fn + 1 = n') (er : n' - 1 = r)
    (H : post r (fc, n', fo, fw, ff, ft, a1, a2, a3, a4, upd a5 fn.toNatClampNeg p0, upd a6 fn.toNatClampNeg p1, upd a7 fn.toNatClampNeg p2, upd a8 fn.toNatClampNeg p3, upd a9 fn.toNatClampNeg p4, upd a10 fn.toNatClampNeg 0, upd a11 fn.toNatClampNeg q, upd a12 fn.toNatClampNeg p0, a13, a14)) :
    wpX_makeNode post (fc, fn, fo, fw, ff, ft, a1, a2, a3, a4, a5, a6, a7, a8, a9, a10, a11, a12, a13, a14) p0 p1 p2 p3 p4 := by
  subst er eq
  unfold wpX_makeNode
  exact ⟨hn, nm_e ⟨hn, nm_e ⟨hn, nm_e ⟨hn, nm_e ⟨hn, nm_e ⟨hn, nm_e (br_f h1 ⟨hp, br_f hq ⟨hp, hn, nm_e ⟨hn, nm_e (nm_r e H)⟩⟩⟩)⟩⟩⟩⟩⟩⟩
/-- where an expression is expected stands a number -/
theorem mx_begin {post : Int32 → St2 → Prop} {p t n' r o' : Int32} (hp : vp_in p 16) (h4 : a4 p.toNatClampNeg = t) (ht : ¬ 10 ≤ t) (hn : vp_in fn 16) (ho : vp_in fo 16) (e : fn + 1 = n') (er : n' - 1 = r) (eo : fo + 1 = o')
    (H : post 1 (fc, n', o', fw, ff, ft, a1, a2, a3, a4, upd a5 fn.toNatClampNeg p, upd a6 fn.toNatClampNeg (-1), upd a7 fn.toNatClampNeg (-1), upd a8 fn.toNatClampNeg 5, upd a9 fn.toNatClampNeg t, upd a10 fn.toNatClampNeg 0, upd a11 fn.toNatClampNeg p, upd a12 fn.toNatClampNeg p, upd a13 fo.toNatClampNeg r, a14)) :
    wpX_begin post (fc, fn, fo, fw, ff, ft, a1, a2, a3, a4, a5, a6, a7, a8, a9, a10, a11, a12, a13, a14) p := by
  unfold wpX_begin
  refine ⟨hp, nm_r h4 (br_f ht (mx_mk hn (by decide) e er ?_))⟩
  unfold wpX_putOperand
  exact ⟨ho, nm_e (nm_r eo H)⟩
theorem mx_level {post : Int32 → St2 → Prop} {k : Int32} (h0 : ¬ k < 0) (h4 : k ≤ 4) (H : ∀ r, post r (fc, fn, fo, fw, ff, ft, upd a1 0 k, a2, a3, a4, a5, a6, a7, a8, a9, a10, a11, a12, a13, a14)) : wpX_level post (fc, fn, fo, fw, ff, ft, a1, a2, a3, a4, a5, a6, a7, a8, a9, a10, a11, a12, a13, a14) 0 k := by
  unfold wpX_level
  exact br_f (by decide) (br_f (by decide) (br_f h0 (br_t h4 ⟨pk_in 0 5 (by decide), nm_e ⟨pk_in 0 5 (by decide), nm_e (H _)⟩⟩)))
theorem mx_token {post : Int32 → St2 → Prop} {p c' : Int32} (h0 : ¬ p < 0) (h19 : p ≤ 19) (h15 : ¬ fc = 15) (hc : vp_in fc 16) (e : fc + 1 = c') (H : post c' (c', fn, fo, fw, ff, ft, a1, a2, a3, upd a4 fc.toNatClampNeg p, a5, a6, a7, a8, a9, a10, a11, a12, a13, a14)) : wpX_token post (fc, fn, fo, fw, ff, ft, a1, a2, a3, a4, a5, a6, a7, a8, a9, a10, a11, a12, a13, a14) p := by
  unfold wpX_token
  exact br_f h0 (br_t h19 (br_f h15 ⟨hc, nm_e (nm_r e H)⟩))
end
end
section
/-! reading: the loop's turns, each once -/
section
variable {fc fn fo fw ff ft : Int32} {a1 a2 a3 a4 a5 a6 a7 a8 a9 a10 a11 a12 a13 a14 : Nat → Int32}
/-- the level of operator j -/
def mx_l (j : Nat) : Int32 := nI (if j < 6 then j / 2 else j - 3)
/-- what the reading never changes: the kinds (level 0: k), the levels, the two meanings, the text a t b; v is the due value -/
def mx_B (k v a b : Int32) (a1 a2 a3 a4 : Nat → Int32) : Prop :=
  (a1 0 = k ∧ ∀ j, j < 4 → a1 (j + 1) = 0) ∧ (∀ j, j < 8 → a2 j = mx_l j) ∧ (a4 0 = a ∧ a4 2 = b ∧ ¬ 10 ≤ a ∧ ¬ 10 ≤ b) ∧ (a4 1 = 10 ∧ a3 0 = 0 ∧ v = a + b ∨ a4 1 = 11 ∧ a3 1 = 1 ∧ v = a - b)
theorem mx_B_upd {k v a b x : Int32} (h : mx_B k v a b a1 a2 a3 a4) : mx_B k v a b a1 a2 a3 (upd a4 3 x) := by
  obtain ⟨h1, h2, ⟨h3, h4, h5⟩, h6⟩ := h
  refine ⟨h1, h2, ⟨?_, ?_, h5⟩, ?_⟩
  · rw [pk_un (by decide)]; exact h3
  · rw [pk_un (by decide)]; exact h4
  · rw [pk_un (by decide)]; exact h6
/-- what stands at place 1: an operator of level 0 with its meaning -/
theorem mx_B1 {k v a b : Int32} (h : mx_B k v a b a1 a2 a3 a4) : ∃ t m, mx_P 1 t 0 a2 a4 ∧ a3 (t - 10).toNatClampNeg = m ∧ (m = 0 ∧ v = a + b ∨ m = 1 ∧ v = a - b) ∧ ¬ t = 18 ∧ ¬ t = 19 ∧ ¬ t < 10 ∧ ¬ 18 ≤ t := by
  obtain ⟨h1, h2, h3, ⟨h4, h5, h6⟩ | ⟨h4, h5, h6⟩⟩ := h
  · exact ⟨10, 0, ⟨pk_in 1 16 (by decide), h4, pk_in 0 8 (by decide), h2 0 (by decide)⟩, h5, Or.inl ⟨rfl, h6⟩, by decide, by decide, by decide, by decide⟩
  · exact ⟨11, 1, ⟨pk_in 1 16 (by decide), h4, pk_in 1 8 (by decide), h2 1 (by decide)⟩, h5, Or.inr ⟨rfl, h6⟩, by decide, by decide, by decide, by decide⟩
/-- behind the first number -/
def mx_F1 (a : Int32) (b6 b7 b8 b9 b10 b11 b12 b13 : Nat → Int32) : Prop :=
  b6 0 = -1 ∧ b7 0 = -1 ∧ b8 0 = 5 ∧ b9 0 = a ∧ b10 0 = 0 ∧ b11 0 = 0 ∧ b12 0 = 0 ∧ b13 0 = 0
/-- behind the second number -/
def mx_F3 (a b : Int32) (b6 b7 b8 b9 b10 b11 b12 b13 b14 : Nat → Int32) : Prop :=
  (b6 0 = -1 ∧ b7 0 = -1 ∧ b8 0 = 5 ∧ b9 0 = a ∧ b10 0 = 0 ∧ b11 0 = 0 ∧ b12 0 = 0 ∧ b13 0 = 0) ∧ (b6 1 = -1 ∧ b7 1 = -1 ∧ b8 1 = 5 ∧ b9 1 = b ∧ b10 1 = 0 ∧ b11 1 = 2 ∧ b12 1 = 2 ∧ b13 1 = 1) ∧ b14 0 = 1
/-- behind the operator's application -/
def mx_F4 (v : Int32) (b5 b6 b7 b8 b9 b10 b11 b12 b13 : Nat → Int32) : Prop :=
  (b11 0 = 0 ∧ b12 0 = 0 ∧ b13 0 = 2) ∧ (b6 1 = -1 ∧ b7 1 = -1 ∧ b10 1 = 0 ∧ b11 1 = 2 ∧ b12 1 = 2) ∧ (b5 2 = 1 ∧ b6 2 = 0 ∧ b7 2 = 1 ∧ b8 2 = 0 ∧ b9 2 = v ∧ b10 2 = 0 ∧ b11 2 = 0 ∧ b12 2 = 2)
/-- once it isn't fine the loop ends, and the answer is no -/
theorem mx_exit {post : Int32 → St2 → Prop} {n : Nat} {x1 x2 : Int32} (H : post 0 (fc, fn, fo, fw, 0, ft, a1, a2, a3, a4, a5, a6, a7, a8, a9, a10, a11, a12, a13, a14)) : wX_readAll_35 post (n + 1) x1 x2 fc fn fo fw 0 ft a1 a2 a3 a4 a5 a6 a7 a8 a9 a10 a11 a12 a13 a14 := by
  have e : wX_readAll_74 post x1 fc fn fo fw 0 ft a1 a2 a3 a4 a5 a6 a7 a8 a9 a10 a11 a12 a13 a14 := br_t rfl ⟨rfl, rfl, br_t rfl ⟨rfl, H⟩⟩
  exact br_c (fun _ => e) (fun _ => br_t rfl e)
/-- the first turn: a number -/
theorem mx_one {post : Int32 → St2 → Prop} {n : Nat} {a : Int32} (hc : ¬ fc ≤ 0) (h4 : a4 0 = a) (ha : ¬ 10 ≤ a)
    (H : ∀ b5 b6 b7 b8 b9 b10 b11 b12 b13, mx_F1 a b6 b7 b8 b9 b10 b11 b12 b13 → wX_readAll_35 post n 1 1 fc 1 1 0 1 ft a1 a2 a3 a4 b5 b6 b7 b8 b9 b10 b11 b12 b13 a14) :
    wX_readAll_35 post (n + 1) 0 0 fc 0 0 0 1 ft a1 a2 a3 a4 a5 a6 a7 a8 a9 a10 a11 a12 a13 a14 := by
  refine br_f hc (br_f (by decide) (br_t rfl ?_))
  refine mx_begin (pk_in 0 16 (by decide)) h4 ha (pk_in 0 16 (by decide)) (pk_in 0 16 (by decide)) (n' := 1) (r := 0) (o' := 1) (by decide) (by decide) (by decide) (nm_r (show (0 : Int32) + 1 = 1 by decide) ?_)
  exact H _ _ _ _ _ _ _ _ _ ⟨mx_us (by decide), mx_us (by decide), mx_us (by decide), mx_us (by decide), mx_us (by decide), mx_us (by decide), mx_us (by decide), mx_us (by decide)⟩
/-- nothing waits -/
theorem mx_aw0 {post : St2 → Prop} {q : Int32} (H : post (fc, fn, fo, 0, ff, ft, a1, a2, a3, a4, a5, a6, a7, a8, a9, a10, a11, a12, a13, a14)) : wpX_applyWaiting post (fc, fn, fo, 0, ff, ft, a1, a2, a3, a4, a5, a6, a7, a8, a9, a10, a11, a12, a13, a14) q := by
  unfold wpX_applyWaiting
  exact ⟨1, br_f (by decide) (br_t (by decide) H)⟩
/-- the second turn: an operator between, at place 1, nothing waiting -/
theorem mx_two {post : Int32 → St2 → Prop} {n : Nat} {k v a b : Int32} (hc : ¬ fc ≤ 1) (hB : mx_B k v a b a1 a2 a3 a4) (hk3 : ¬ k = 3) (hk4 : ¬ k = 4)
    (H : wX_readAll_35 post n 0 2 fc fn fo 1 1 ft a1 a2 a3 a4 a5 a6 a7 a8 a9 a10 a11 a12 a13 (upd a14 0 1)) : wX_readAll_35 post (n + 1) 1 1 fc fn fo 0 1 ft a1 a2 a3 a4 a5 a6 a7 a8 a9 a10 a11 a12 a13 a14 := by
  obtain ⟨t, m, hP, hm, hv, h18, h19, h10, h18'⟩ := mx_B1 hB
  have h1 : a1 (0 : Int32).toNatClampNeg = k := hB.1.1
  refine br_f hc (br_f (by decide) (br_f (by decide) ?_))
  unfold wpX_goOn
  refine ⟨hP.1, nm_r hP.2.1 (br_f h19 (mx_op1 h10 h18' (br_f (by decide) (mx_kd hP (pk_in 0 5 (by decide)) h1 (br_f hk3 (mx_lv hP (mx_aw0 (mx_kd hP (pk_in 0 5 (by decide)) h1 (br_f hk4 ?_)))))))))⟩
  exact ⟨pk_in 0 16 (by decide), nm_e (nm_r (show (0 : Int32) + 1 = 1 by decide) (nm_r (show (1 : Int32) + 1 = 2 by decide) H))⟩
/-- the third turn: a number, at place 2 -/
theorem mx_thr {post : Int32 → St2 → Prop} {n : Nat} {a b : Int32} (hc : ¬ fc ≤ 2) (h4 : a4 2 = b) (hb : ¬ 10 ≤ b) (hF : mx_F1 a a6 a7 a8 a9 a10 a11 a12 a13) (h14 : a14 0 = 1)
    (H : ∀ b5 b6 b7 b8 b9 b10 b11 b12 b13, mx_F3 a b b6 b7 b8 b9 b10 b11 b12 b13 a14 → wX_readAll_35 post n 1 3 fc 2 2 fw 1 ft a1 a2 a3 a4 b5 b6 b7 b8 b9 b10 b11 b12 b13 a14) :
    wX_readAll_35 post (n + 1) 0 2 fc 1 1 fw 1 ft a1 a2 a3 a4 a5 a6 a7 a8 a9 a10 a11 a12 a13 a14 := by
  obtain ⟨f6, f7, f8, f9, f10, f11, f12, f13⟩ := hF
  refine br_f hc (br_f (by decide) (br_t rfl ?_))
  refine mx_begin (pk_in 2 16 (by decide)) h4 hb (pk_in 1 16 (by decide)) (pk_in 1 16 (by decide)) (n' := 2) (r := 1) (o' := 2) (by decide) (by decide) (by decide) (nm_r (show (2 : Int32) + 1 = 3 by decide) ?_)
  refine H _ _ _ _ _ _ _ _ _ ⟨⟨mx_un (by decide) f6, mx_un (by decide) f7, mx_un (by decide) f8, mx_un (by decide) f9, mx_un (by decide) f10, mx_un (by decide) f11, mx_un (by decide) f12, mx_un (by decide) f13⟩, ⟨?_, ?_, ?_, ?_, ?_, ?_, ?_, ?_⟩, h14⟩
  all_goals exact mx_us (by decide)
/-- three turns of an operator between -/
theorem mx_three {post : Int32 → St2 → Prop} {n : Nat} {k v a b : Int32} (h0 : ¬ fc ≤ 0) (h1 : ¬ fc ≤ 1) (h2 : ¬ fc ≤ 2) (hB : mx_B k v a b a1 a2 a3 a4) (hk3 : ¬ k = 3) (hk4 : ¬ k = 4)
    (H : ∀ b5 b6 b7 b8 b9 b10 b11 b12 b13 b14, mx_F3 a b b6 b7 b8 b9 b10 b11 b12 b13 b14 → wX_readAll_35 post n 1 3 fc 2 2 1 1 ft a1 a2 a3 a4 b5 b6 b7 b8 b9 b10 b11 b12 b13 b14) :
    wX_readAll_35 post (n + 1 + 1 + 1) 0 0 fc 0 0 0 1 ft a1 a2 a3 a4 a5 a6 a7 a8 a9 a10 a11 a12 a13 a14 := by
  refine mx_one h0 hB.2.2.1.1 hB.2.2.1.2.2.1 (fun b5 b6 b7 b8 b9 b10 b11 b12 b13 hF => ?_)
  refine mx_two h1 hB hk3 hk4 ?_
  exact mx_thr h2 hB.2.2.1.2.1 hB.2.2.1.2.2.2 hF pk_us (fun _ _ _ _ _ _ _ _ _ h => H _ _ _ _ _ _ _ _ _ _ h)
/-- the operator at place 1 is applied to the two numbers -/
theorem mx_app {post : St2 → Prop} {k v a b : Int32} (hB : mx_B k v a b a1 a2 a3 a4) (hk : k < 3) (hF : mx_F3 a b a6 a7 a8 a9 a10 a11 a12 a13 a14)
    (H : ∀ b5 b6 b7 b8 b9 b10 b11 b12 b13, mx_F4 v b5 b6 b7 b8 b9 b10 b11 b12 b13 → post (fc, 3, 1, fw, 1, ft, a1, a2, a3, a4, b5, b6, b7, b8, b9, b10, b11, b12, b13, a14)) : wpX_apply post (fc, 2, 2, fw, 1, ft, a1, a2, a3, a4, a5, a6, a7, a8, a9, a10, a11, a12, a13, a14) 1 := by
  obtain ⟨t, m, hP, hm, hv, h18, h19, h10, h18'⟩ := mx_B1 hB
  obtain ⟨⟨f6, f7, f8, f9, f10, f11, f12, f13⟩, ⟨g6, g7, g8, g9, g10, g11, g12, g13⟩, g14⟩ := hF
  have h1 : a1 (0 : Int32).toNatClampNeg = k := hB.1.1
  have i0 : vp_in 0 16 := pk_in 0 16 (by decide)
  have i1 : vp_in 1 16 := pk_in 1 16 (by decide)
  have l0 : vp_in 0 5 := pk_in 0 5 (by decide)
  have e8 : a8 (0 : Int32).toNatClampNeg = 5 := f8
  have e8' : a8 (1 : Int32).toNatClampNeg = 5 := g8
  have fin : wX_apply_214 post 1 m 0 0 1 1 fc 2 2 fw 1 ft a1 a2 a3 a4 a5 a6 a7 a8 a9 a10 a11 a12 a13 a14 := by
    unfold wX_apply_214
    refine ⟨rfl, rfl, i0, i1, ?_⟩
    rw [show a9 (0 : Int32).toNatClampNeg = a from f9, show a9 (1 : Int32).toNatClampNeg = b from g9]
    refine mx_bt hv (mx_mk2 (pk_in 2 16 (by decide)) (by decide) i0 (q := 0) f11 (by decide) (n' := 3) (r := 2) (by decide) (by decide) ?_)
    refine ⟨i1, pk_in 2 16 (by decide), nm_r (e' := upd (upd a12 (2 : Int32).toNatClampNeg 1) (2 : Int32).toNatClampNeg 2) ?_ (nm_r (show (2 : Int32) - 1 = 1 by decide) ⟨i0, nm_r (e' := upd a13 (0 : Int32).toNatClampNeg 2) rfl (H _ _ _ _ _ _ _ _ _ ?_)⟩)⟩
    · rw [show upd a12 (2 : Int32).toNatClampNeg 1 (1 : Int32).toNatClampNeg = 2 from mx_un (by decide) g12]
    · exact ⟨⟨mx_un (by decide) f11, mx_un (by decide) (mx_un (by decide) f12), mx_us (by decide)⟩,
        ⟨mx_un (by decide) g6, mx_un (by decide) g7, mx_un (by decide) g10, mx_un (by decide) g11, mx_un (by decide) (mx_un (by decide) g12)⟩,
        ⟨mx_us (by decide), mx_us (by decide), mx_us (by decide), mx_us (by decide), mx_us (by decide), mx_us (by decide), mx_us (by decide), mx_us (by decide)⟩⟩
  have nr : ∀ r : Int32, (¬ (5 : Int32) < r) → ((a8 (1 : Int32).toNatClampNeg < r → wX_apply_213 post 1 m 0 0 1 fc 2 2 fw 1 ft a1 a2 a3 a4 a5 a6 a7 a8 a9 a10 a11 a12 a13 a14) ∧ (¬ a8 (1 : Int32).toNatClampNeg < r → wX_apply_214 post 1 m 0 0 1 1 fc 2 2 fw 1 ft a1 a2 a3 a4 a5 a6 a7 a8 a9 a10 a11 a12 a13 a14)) :=
    fun r hr => br_f (by rw [e8']; exact hr) fin
  unfold wpX_apply
  refine ⟨hP.1, by rw [hP.2.1]; exact hP.2.2.1, nm_r (show _ = m by rw [hP.2.1]; exact hm) (mx_kd hP l0 h1 (mx_lv hP (br_t hk ?_)))⟩
  refine ⟨i0, nm_r (show _ = (0 : Int32) from f13) ⟨i1, nm_r (show _ = (1 : Int32) from g13) (br_f (by decide) ⟨i0, ?_⟩)⟩⟩
  have nl : ∀ r : Int32, (¬ (5 : Int32) < r) → ¬ a8 (0 : Int32).toNatClampNeg < r := fun r hr => by rw [e8]; exact hr
  exact mx_nl hP l0 (br_f (nl _ (by decide)) ⟨i1, mx_nr hP l0 (nr _ (by decide)) (nr _ (by decide))⟩) (br_f (nl _ (by decide)) ⟨i1, mx_nr hP l0 (nr _ (by decide)) (nr _ (by decide))⟩)
end
end
section
/-! what waits is applied; the fourth token; the two kinds that don't stand between; reading whole -/
section
variable {fc fn fo fw ff ft : Int32} {a1 a2 a3 a4 a5 a6 a7 a8 a9 a10 a11 a12 a13 a14 : Nat → Int32}
/-- the one operator that waits is taken -/
theorem mx_go {post : St2 → Prop} {q k v a b : Int32} (hB : mx_B k v a b a1 a2 a3 a4) (hk : k < 3) (hF : mx_F3 a b a6 a7 a8 a9 a10 a11 a12 a13 a14)
    (H : ∀ b5 b6 b7 b8 b9 b10 b11 b12 b13, mx_F4 v b5 b6 b7 b8 b9 b10 b11 b12 b13 → post (fc, 3, 1, 0, 1, ft, a1, a2, a3, a4, b5, b6, b7, b8, b9, b10, b11, b12, b13, a14)) :
    wX_applyWaiting_61 post (wX_applyWaiting_2 post q 1) q 0 1 fc 2 2 1 1 ft a1 a2 a3 a4 a5 a6 a7 a8 a9 a10 a11 a12 a13 a14 := by
  unfold wX_applyWaiting_61 wX_applyWaiting_66
  refine br_f (by decide) (nm_r (show (1 : Int32) - 1 = 0 by decide) (mx_app hB hk hF (fun b5 b6 b7 b8 b9 b10 b11 b12 b13 h => nm_r (show (0 : Int32) + 1 = 1 by decide) ?_)))
  exact br_f (by decide) (br_t (by decide) (H _ _ _ _ _ _ _ _ _ h))
/-- the first turn of what waits, whichever way it is decided -/
theorem mx_aw {post : St2 → Prop} {q k v a b : Int32} (hB : mx_B k v a b a1 a2 a3 a4) (hF : mx_F3 a b a6 a7 a8 a9 a10 a11 a12 a13 a14)
    (H : ((q < 0 → wX_applyWaiting_61 post (wX_applyWaiting_2 post q 1) q 0 1 fc 2 2 1 1 ft a1 a2 a3 a4 a5 a6 a7 a8 a9 a10 a11 a12 a13 a14) ∧ (¬ q < 0 → wpX_takesFirst (fun r => ((r = 0 → wX_applyWaiting_66 post (wX_applyWaiting_2 post q 1) q 0 1 0 fc 2 2 1 1 ft a1 a2 a3 a4 a5 a6 a7 a8 a9 a10 a11 a12 a13 a14) ∧ (¬ r = 0 → wX_applyWaiting_61 post (wX_applyWaiting_2 post q 1) q 0 1 fc 2 2 1 1 ft a1 a2 a3 a4 a5 a6 a7 a8 a9 a10 a11 a12 a13 a14))) (fc, 2, 2, 1, 1, ft, a1, a2, a3, a4, a5, a6, a7, a8, a9, a10, a11, a12, a13, a14) 1 q))) :
    wpX_applyWaiting post (fc, 2, 2, 1, 1, ft, a1, a2, a3, a4, a5, a6, a7, a8, a9, a10, a11, a12, a13, a14) q := by
  obtain ⟨t, m, hP, hm, hv, h18, h19, h10, h18'⟩ := mx_B1 hB
  have e14 : a14 ((1 : Int32) - 1).toNatClampNeg = 1 := hF.2.2
  have e4 : a4 (1 : Int32).toNatClampNeg = t := hP.2.1
  unfold wpX_applyWaiting
  exact ⟨2, br_f (by decide) (br_f (by decide) ⟨pk_in 0 16 (by decide), by rw [e14]; exact hP.1, br_f (by rw [e14, e4]; exact h18) ⟨pk_in 0 16 (by decide), nm_r e14 H⟩⟩)⟩
theorem mx_awA {post : St2 → Prop} {k v a b : Int32} (hB : mx_B k v a b a1 a2 a3 a4) (hk : k < 3) (hF : mx_F3 a b a6 a7 a8 a9 a10 a11 a12 a13 a14)
    (H : ∀ b5 b6 b7 b8 b9 b10 b11 b12 b13, mx_F4 v b5 b6 b7 b8 b9 b10 b11 b12 b13 → post (fc, 3, 1, 0, 1, ft, a1, a2, a3, a4, b5, b6, b7, b8, b9, b10, b11, b12, b13, a14)) : wpX_applyWaiting post (fc, 2, 2, 1, 1, ft, a1, a2, a3, a4, a5, a6, a7, a8, a9, a10, a11, a12, a13, a14) (-1) :=
  mx_aw hB hF (br_t (by decide) (mx_go hB hk hF H))
theorem mx_awS {post : St2 → Prop} {q k v a b : Int32} (hB : mx_B k v a b a1 a2 a3 a4) (hk : k < 3) (hF : mx_F3 a b a6 a7 a8 a9 a10 a11 a12 a13 a14) (hq : vp_in q 5)
    (H : ∀ b5 b6 b7 b8 b9 b10 b11 b12 b13, mx_F4 v b5 b6 b7 b8 b9 b10 b11 b12 b13 → post (fc, 3, 1, 0, 1, ft, a1, a2, a3, a4, b5, b6, b7, b8, b9, b10, b11, b12, b13, a14)) (H' : post (fc, 2, 2, 1, 1, ft, a1, a2, a3, a4, a5, a6, a7, a8, a9, a10, a11, a12, a13, a14)) : wpX_applyWaiting post (fc, 2, 2, 1, 1, ft, a1, a2, a3, a4, a5, a6, a7, a8, a9, a10, a11, a12, a13, a14) q := by
  obtain ⟨t, m, hP, hm, hv, h18, h19, h10, h18'⟩ := mx_B1 hB
  refine mx_aw hB hF (br_f (fun z => hq (Or.inl z)) (mx_tf hP hq (br_t rfl ?_) (br_f (by decide) (mx_go hB hk hF H))))
  unfold wX_applyWaiting_66
  exact br_t rfl H'
/-- where operators' levels lie, and of which kind they are -/
theorem mx_lk {k v a b : Int32} {j : Nat} (hB : mx_B k v a b a1 a2 a3 a4) (hk : k < 3) (hj : j < 8) : ∃ l k' : Int32, mx_l j = l ∧ vp_in l 5 ∧ a1 l.toNatClampNeg = k' ∧ ¬ k' = 3 ∧ ¬ k' = 4 := by
  have hl : (if j < 6 then j / 2 else j - 3) < 5 := by split <;> omega
  refine ⟨mx_l j, a1 (mx_l j).toNatClampNeg, rfl, vp_in_nI hl (by decide), rfl, ?_⟩
  unfold mx_l
  rw [nI_clamp (by omega)]
  revert hl
  generalize (if j < 6 then j / 2 else j - 3) = l
  intro hl
  rcases l with _ | l
  · rw [hB.1.1]
    constructor
    · intro e
      subst e
      exact absurd hk (by decide)
    · intro e
      subst e
      exact absurd hk (by decide)
  · rw [hB.1.2 l (by omega)]
    exact ⟨by decide, by decide⟩
/-- the fourth token, whichever it is: behind it it isn't fine, or an expression is expected -/
theorem mx_g3 {post : Int32 → St2 → Prop} {k v a b : Int32} {i : Nat} (hB : mx_B k v a b a1 a2 a3 a4) (hk : k < 3) (hF : mx_F3 a b a6 a7 a8 a9 a10 a11 a12 a13 a14) (hi : i < 20) (h4 : a4 3 = nI i)
    (H : ∀ (r fn fo fw ff : Int32) (b5 b6 b7 b8 b9 b10 b11 b12 b13 b14 : Nat → Int32), (r = 0 ∨ ff = 0) → post r (fc, fn, fo, fw, ff, ft, a1, a2, a3, a4, b5, b6, b7, b8, b9, b10, b11, b12, b13, b14)) : wpX_goOn post (fc, 2, 2, 1, 1, ft, a1, a2, a3, a4, a5, a6, a7, a8, a9, a10, a11, a12, a13, a14) 3 := by
  have i3 : vp_in 3 16 := pk_in 3 16 (by decide)
  have e4 : a4 (3 : Int32).toNatClampNeg = nI i := h4
  unfold wpX_goOn
  refine ⟨i3, nm_r e4 ?_⟩
  refine pk_eq i 19 (fun e => ?_) (fun e => ?_)
  · unfold wpX_closeBracket
    exact mx_awA hB hk hF (fun b5 b6 b7 b8 b9 b10 b11 b12 b13 h => br_t rfl (H 1 3 1 0 0 b5 b6 b7 b8 b9 b10 b11 b12 b13 a14 (Or.inr rfl)))
  · by_cases h1 : i < 10
    · exact mx_op0 (Or.inl (nI_lt (b := 10) h1 (by decide))) (br_t rfl (H _ _ _ _ _ _ _ _ _ _ _ _ _ _ _ (Or.inr rfl)))
    · by_cases h2 : 18 ≤ i
      · exact mx_op0 (Or.inr (nI_le (a := 18) h2 (by omega))) (br_t rfl (H _ _ _ _ _ _ _ _ _ _ _ _ _ _ _ (Or.inr rfl)))
      · obtain ⟨l, k', el, hl, hk', h3, h4'⟩ := mx_lk (j := i - 10) hB hk (by omega)
        have es : nI i - 10 = nI (i - 10) := pk_sub (b := 10) (by omega)
        have hP : mx_P 3 (nI i) l a2 a4 := by
          refine ⟨i3, e4, ?_, ?_⟩
          · rw [es]
            exact vp_in_nI (by omega) (by decide)
          · rw [es, nI_clamp (by omega), hB.2.1 _ (by omega)]
            exact el
        refine mx_op1 (nI_nlt (b := 10) (by omega) (by omega)) (nI_ge (b := 18) (by omega) (by decide)) (br_f (by decide) (mx_kd hP hl hk' (br_f h3 (mx_lv hP (mx_awS hB hk hF hl (fun b5 b6 b7 b8 b9 b10 b11 b12 b13 h => ?_) ?_)))))
        · exact mx_kd hP hl hk' (br_f h4' ⟨pk_in 0 16 (by decide), nm_e (nm_e (H _ _ _ _ _ _ _ _ _ _ _ _ _ _ _ (Or.inl rfl)))⟩)
        · exact mx_kd hP hl hk' (br_f h4' ⟨pk_in 1 16 (by decide), nm_e (nm_e (H _ _ _ _ _ _ _ _ _ _ _ _ _ _ _ (Or.inl rfl)))⟩)
/-- the text's end where an expression is expected, or where it isn't fine -/
theorem mx_last {post : Int32 → St2 → Prop} {n : Nat} {x1 x2 : Int32} (hx : fc ≤ x2) (h : x1 = 0 ∨ ff = 0) (H : post 0 (fc, fn, fo, fw, 0, ft, a1, a2, a3, a4, a5, a6, a7, a8, a9, a10, a11, a12, a13, a14)) : wX_readAll_35 post (n + 1) x1 x2 fc fn fo fw ff ft a1 a2 a3 a4 a5 a6 a7 a8 a9 a10 a11 a12 a13 a14 := by
  have e : wX_readAll_90 post fc fn fo fw ff ft a1 a2 a3 a4 a5 a6 a7 a8 a9 a10 a11 a12 a13 a14 := ⟨rfl, rfl, br_t rfl ⟨rfl, H⟩⟩
  exact br_t hx (br_c (fun _ => e) (fun z => br_t (h.resolve_right z) e))
/-- READING four tokens, an operator between: no -/
theorem mx_R4 {post : Int32 → St2 → Prop} {k v a b : Int32} {i : Nat} (hB : mx_B k v a b a1 a2 a3 a4) (hk : k < 3) (hi : i < 20) (h4 : a4 3 = nI i)
    (H : ∀ (fn fo fw ff ft : Int32) (b5 b6 b7 b8 b9 b10 b11 b12 b13 b14 : Nat → Int32), post 0 (4, fn, fo, fw, ff, ft, a1, a2, a3, a4, b5, b6, b7, b8, b9, b10, b11, b12, b13, b14)) : wpX_readAll post (4, fn, fo, fw, ff, ft, a1, a2, a3, a4, a5, a6, a7, a8, a9, a10, a11, a12, a13, a14) := by
  have k3 : ¬ k = 3 := fun e => absurd hk (by rw [e]; decide)
  have k4 : ¬ k = 4 := fun e => absurd hk (by rw [e]; decide)
  unfold wpX_readAll
  refine br_f (by decide) ⟨0 + 1 + 1 + 1 + 1 + 1, mx_three (by decide) (by decide) (by decide) hB k3 k4 (fun b5 b6 b7 b8 b9 b10 b11 b12 b13 b14 hF => ?_)⟩
  refine br_f (by decide) (br_f (by decide) (br_f (by decide) (mx_g3 hB hk hF hi h4 (fun r fn fo fw ff c5 c6 c7 c8 c9 c10 c11 c12 c13 c14 h => nm_r (show (3 : Int32) + 1 = 4 by decide) ?_))))
  exact mx_last (by decide) h (H _ _ _ _ _ _ _ _ _ _ _ _ _ _ _)
/-- READING three tokens, an operator between: yes -/
theorem mx_R3 {post : Int32 → St2 → Prop} {k v a b : Int32} (hB : mx_B k v a b a1 a2 a3 a4) (hk : k < 3)
    (H : ∀ (b5 b6 b7 b8 b9 b10 b11 b12 b13 b14 : Nat → Int32), mx_F4 v b5 b6 b7 b8 b9 b10 b11 b12 b13 → post 1 (3, 3, 1, 0, 1, 2, a1, a2, a3, a4, b5, b6, b7, b8, b9, b10, b11, b12, b13, b14)) : wpX_readAll post (3, fn, fo, fw, ff, ft, a1, a2, a3, a4, a5, a6, a7, a8, a9, a10, a11, a12, a13, a14) := by
  have k3 : ¬ k = 3 := fun e => absurd hk (by rw [e]; decide)
  have k4 : ¬ k = 4 := fun e => absurd hk (by rw [e]; decide)
  unfold wpX_readAll
  refine br_f (by decide) ⟨0 + 1 + 1 + 1 + 1, mx_three (by decide) (by decide) (by decide) hB k3 k4 (fun b5 b6 b7 b8 b9 b10 b11 b12 b13 b14 hF => ?_)⟩
  refine br_t (by decide) (br_f (by decide) (br_f (by decide) ⟨rfl, rfl, br_f (by decide) (mx_awA hB hk hF (fun c5 c6 c7 c8 c9 c10 c11 c12 c13 h => br_f (by decide) (br_t rfl ?_)))⟩))
  exact ⟨rfl, rfl, nm_r h.1.2.2 ⟨rfl, H _ _ _ _ _ _ _ _ _ _ h⟩⟩
/-- READING three or four tokens, an operator before or behind: no -/
theorem mx_R0 {post : Int32 → St2 → Prop} {k v a b : Int32} (hB : mx_B k v a b a1 a2 a3 a4) (hk : k = 3 ∨ k = 4) (h0 : ¬ fc ≤ 0) (h1 : ¬ fc ≤ 1) (h2 : ¬ fc ≤ 2)
    (H : ∀ (fn fo fw ff ft : Int32) (b5 b6 b7 b8 b9 b10 b11 b12 b13 b14 : Nat → Int32), post 0 (fc, fn, fo, fw, ff, ft, a1, a2, a3, a4, b5, b6, b7, b8, b9, b10, b11, b12, b13, b14)) : wpX_readAll post (fc, fn, fo, fw, ff, ft, a1, a2, a3, a4, a5, a6, a7, a8, a9, a10, a11, a12, a13, a14) := by
  obtain ⟨t, m, hP, hm, hv, h18, h19, h10, h18'⟩ := mx_B1 hB
  have e1 : a1 (0 : Int32).toNatClampNeg = k := hB.1.1
  have i0 : vp_in 0 16 := pk_in 0 16 (by decide)
  have l0 : vp_in 0 5 := pk_in 0 5 (by decide)
  unfold wpX_readAll
  refine br_f h0 ⟨0 + 1 + 1 + 1 + 1, mx_one h0 hB.2.2.1.1 hB.2.2.1.2.2.1 (fun b5 b6 b7 b8 b9 b10 b11 b12 b13 hF => ?_)⟩
  refine br_f h1 (br_f (by decide) (br_f (by decide) ?_))
  unfold wpX_goOn
  refine ⟨hP.1, nm_r hP.2.1 (br_f h19 (mx_op1 h10 h18' (br_f (by decide) (mx_kd hP l0 e1 (br_c (fun z => ?_) (fun z => ?_))))))⟩
  · exact nm_e (mx_exit (H _ _ _ _ _ _ _ _ _ _ _ _ _ _ _))
  · have ek : k = 4 := hk.resolve_left z
    refine mx_lv hP (mx_aw0 (mx_kd hP l0 e1 (br_t ek ?_)))
    obtain ⟨f6, f7, f8, f9, f10, f11, f12, f13⟩ := hF
    have step : ∀ (fn fo fw ft : Int32) (c5 c6 c7 c8 c9 c10 c11 c12 c13 c14 : Nat → Int32), wX_readAll_35 post (0 + 1 + 1) 1 2 fc fn fo fw 1 ft a1 a2 a3 a4 c5 c6 c7 c8 c9 c10 c11 c12 c13 c14 := by
      intro fn fo fw ft c5 c6 c7 c8 c9 c10 c11 c12 c13 c14
      refine br_f h2 (br_f (by decide) (br_f (by decide) ?_))
      unfold wpX_goOn
      have hb := hB.2.2.1.2.2.2
      refine ⟨pk_in 2 16 (by decide), nm_r (show _ = b from hB.2.2.1.2.1) (br_f (fun e => hb (by rw [e]; decide)) (mx_op0 (Or.inl (Int32.not_le.mp hb)) (br_t rfl (nm_e (mx_exit ?_)))))⟩
      exact H _ _ _ _ _ _ _ _ _ _ _ _ _ _ _
    unfold wpX_apply
    refine ⟨hP.1, by rw [hP.2.1]; exact hP.2.2.1, nm_e (mx_kd hP l0 e1 (mx_lv hP (br_f (by rw [ek]; decide) ⟨i0, nm_r (show _ = (0 : Int32) from f13) (br_f (by decide) ⟨i0, br_f (by rw [show b8 (0 : Int32).toNatClampNeg = 5 from f8]; decide) ?_⟩)⟩)))⟩
    unfold wX_apply_71
    refine ⟨rfl, rfl, i0, mx_al (fun w => mx_mk2 (pk_in 1 16 (by decide)) (by decide) i0 (q := 0) f11 (by decide) (n' := 2) (r := 1) (by decide) (by decide) ⟨i0, br_c (fun _ => ?_) (fun _ => ⟨i0, ?_⟩)⟩)⟩
    · exact ⟨pk_in 1 16 (by decide), nm_e ⟨i0, nm_e (nm_r (show (1 : Int32) + 1 = 2 by decide) (step _ _ _ _ _ _ _ _ _ _ _ _ _ _))⟩⟩
    · exact ⟨pk_in 1 16 (by decide), nm_e ⟨i0, nm_e (nm_r (show (1 : Int32) + 1 = 2 by decide) (step _ _ _ _ _ _ _ _ _ _ _ _ _ _))⟩⟩
end
end
section
/-! the questions, by READING -/
section
variable {fc fn fo fw ff ft : Int32} {a1 a2 a3 a4 a5 a6 a7 a8 a9 a10 a11 a12 a13 a14 : Nat → Int32}
theorem mx_pa {post : Int32 → Prop} {p q x y : Int32} (hp : vp_in p 16) (e10 : a10 p.toNatClampNeg = 0) (e11 : a11 p.toNatClampNeg = x) (e12 : a12 p.toNatClampNeg = y) (h : x + 0 ≤ q) (h' : q ≤ y - 0) (H : post 0) : wpX_pairsAround post (fc, fn, fo, fw, ff, ft, a1, a2, a3, a4, a5, a6, a7, a8, a9, a10, a11, a12, a13, a14) p q := by
  subst e11 e12
  unfold wpX_pairsAround
  dsimp only
  rw [e10]
  exact ⟨hp, hp, br_t h ⟨hp, hp, br_t h' ⟨hp, H⟩⟩⟩
theorem mx_wi0 {post : Int32 → Prop} {p q x y : Int32} (hp : vp_in p 16) (e11 : a11 p.toNatClampNeg = x) (e12 : a12 p.toNatClampNeg = y) (h : y < q) (H : post 0) : wpX_within post (fc, fn, fo, fw, ff, ft, a1, a2, a3, a4, a5, a6, a7, a8, a9, a10, a11, a12, a13, a14) p q := by
  subst e11 e12
  unfold wpX_within
  exact ⟨hp, br_c (fun _ => H) (fun _ => ⟨hp, br_t h H⟩)⟩
theorem mx_wi1 {post : Int32 → Prop} {p q x y : Int32} (hp : vp_in p 16) (e11 : a11 p.toNatClampNeg = x) (e12 : a12 p.toNatClampNeg = y) (h : ¬ q < x) (h' : ¬ y < q) (H : post 1) : wpX_within post (fc, fn, fo, fw, ff, ft, a1, a2, a3, a4, a5, a6, a7, a8, a9, a10, a11, a12, a13, a14) p q := by
  subst e11 e12
  unfold wpX_within
  exact ⟨hp, br_f h ⟨hp, br_f h' H⟩⟩
theorem mx_pw2 {post : Int32 → Prop} {v : Int32} (hF : mx_F4 v a5 a6 a7 a8 a9 a10 a11 a12 a13) (H : post 1) : wpX_partWith post (fc, fn, fo, fw, ff, ft, a1, a2, a3, a4, a5, a6, a7, a8, a9, a10, a11, a12, a13, a14) 2 2 := by
  obtain ⟨⟨f11, f12, f13⟩, ⟨g6, g7, g10, g11, g12⟩, ⟨h5, h6, h7, h8, h9, h10, h11, h12⟩⟩ := hF
  have i2 : vp_in 2 16 := pk_in 2 16 (by decide)
  unfold wpX_partWith
  refine ⟨i2, nm_r (show _ = (0 : Int32) from h6) ⟨i2, nm_r (show _ = (1 : Int32) from h7) (br_f (by decide) (mx_wi0 (pk_in 0 16 (by decide)) (x := 0) (y := 0) f11 f12 (by decide) (br_t rfl ?_)))⟩⟩
  unfold wX_partWith_30
  exact br_f (by decide) (mx_wi1 (pk_in 1 16 (by decide)) (x := 2) (y := 2) g11 g12 (by decide) (by decide) (br_f (by decide) H))
theorem mx_pw1 {post : Int32 → Prop} {v : Int32} (hF : mx_F4 v a5 a6 a7 a8 a9 a10 a11 a12 a13) (H : post (-1)) : wpX_partWith post (fc, fn, fo, fw, ff, ft, a1, a2, a3, a4, a5, a6, a7, a8, a9, a10, a11, a12, a13, a14) 1 2 := by
  obtain ⟨⟨f11, f12, f13⟩, ⟨g6, g7, g10, g11, g12⟩, ⟨h5, h6, h7, h8, h9, h10, h11, h12⟩⟩ := hF
  have i1 : vp_in 1 16 := pk_in 1 16 (by decide)
  unfold wpX_partWith
  refine ⟨i1, nm_r (show _ = (-1 : Int32) from g6) ⟨i1, nm_r (show _ = (-1 : Int32) from g7) (br_t (by decide) ?_)⟩⟩
  unfold wX_partWith_30
  exact br_t (by decide) H
theorem mx_dep {post : Int32 → St2 → Prop} {v : Int32} (hF : mx_F4 v a5 a6 a7 a8 a9 a10 a11 a12 a13) (H : post 1 (fc, fn, fo, fw, ff, ft, a1, a2, a3, a4, a5, a6, a7, a8, a9, a10, a11, a12, a13, a14)) : wX_depth_35 post 2 fc fn fo fw ff ft a1 a2 a3 a4 a5 a6 a7 a8 a9 a10 a11 a12 a13 a14 (0 + 1 + 1 + 1) 2 0 0 := by
  have hF' := hF
  obtain ⟨⟨f11, f12, f13⟩, ⟨g6, g7, g10, g11, g12⟩, ⟨h5, h6, h7, h8, h9, h10, h11, h12⟩⟩ := hF'
  have i1 : vp_in 1 16 := pk_in 1 16 (by decide)
  have i2 : vp_in 2 16 := pk_in 2 16 (by decide)
  refine br_f (by decide) (br_f (by decide) (mx_pa i2 (x := 0) (y := 2) h10 h11 h12 (by decide) (by decide) (nm_r (show (0 : Int32) + 0 = 0 by decide) ⟨i2, br_t h10.symm (mx_pw2 hF ?_)⟩)))
  unfold wX_depth_83
  refine br_f (by decide) (nm_r (show (0 : Int32) + 1 = 1 by decide) (nm_r (show (0 : Int32) + 1 = 1 by decide) ?_))
  refine br_f (by decide) (br_f (by decide) (mx_pa i1 (x := 2) (y := 2) g10 g11 g12 (by decide) (by decide) (nm_r (show (1 : Int32) + 0 = 1 by decide) ⟨i1, br_t g10.symm (mx_pw1 hF ?_)⟩)))
  unfold wX_depth_83
  refine br_t (by decide) (nm_r (show (1 : Int32) + 1 = 2 by decide) ?_)
  exact br_f (by decide) (br_t (by decide) H)
/-! an operator between -/
theorem mx_reads1 {post : Int32 → St2 → Prop} {k v a b : Int32} (hB : mx_B k v a b a1 a2 a3 a4) (hk : k < 3)
    (H : ∀ (fn fo fw ff ft : Int32) (b5 b6 b7 b8 b9 b10 b11 b12 b13 b14 : Nat → Int32), post 1 (3, fn, fo, fw, ff, ft, a1, a2, a3, a4, b5, b6, b7, b8, b9, b10, b11, b12, b13, b14)) : wpX_reads post (3, fn, fo, fw, ff, ft, a1, a2, a3, a4, a5, a6, a7, a8, a9, a10, a11, a12, a13, a14) := by
  unfold wpX_reads
  exact mx_R3 hB hk (fun b5 b6 b7 b8 b9 b10 b11 b12 b13 b14 h => ⟨rfl, H _ _ _ _ _ _ _ _ _ _ _ _ _ _ _⟩)
theorem mx_value1 {post : Int32 → St2 → Prop} {k v a b : Int32} (hB : mx_B k v a b a1 a2 a3 a4) (hk : k < 3)
    (H : ∀ (fn fo fw ff ft : Int32) (b5 b6 b7 b8 b9 b10 b11 b12 b13 b14 : Nat → Int32), post v (3, fn, fo, fw, ff, ft, a1, a2, a3, a4, b5, b6, b7, b8, b9, b10, b11, b12, b13, b14)) : wpX_value post (3, fn, fo, fw, ff, ft, a1, a2, a3, a4, a5, a6, a7, a8, a9, a10, a11, a12, a13, a14) := by
  unfold wpX_value
  refine mx_R3 hB hk (fun b5 b6 b7 b8 b9 b10 b11 b12 b13 b14 h => br_f (by decide) ⟨pk_in 2 16 (by decide), ?_⟩)
  exact ek_v (P := fun x => post x (3, 3, 1, 0, 1, 2, a1, a2, a3, a4, b5, b6, b7, b8, b9, b10, b11, b12, b13, b14)) (show b9 (2 : Int32).toNatClampNeg = v from h.2.2.2.2.2.2.1) (H _ _ _ _ _ _ _ _ _ _ _ _ _ _ _)
theorem mx_root1 {post : Int32 → St2 → Prop} {k v a b : Int32} (hB : mx_B k v a b a1 a2 a3 a4) (hk : k < 3)
    (H : ∀ (fn fo fw ff ft : Int32) (b5 b6 b7 b8 b9 b10 b11 b12 b13 b14 : Nat → Int32), post 1 (3, fn, fo, fw, ff, ft, a1, a2, a3, a4, b5, b6, b7, b8, b9, b10, b11, b12, b13, b14)) : wpX_root post (3, fn, fo, fw, ff, ft, a1, a2, a3, a4, a5, a6, a7, a8, a9, a10, a11, a12, a13, a14) := by
  unfold wpX_root
  refine mx_R3 hB hk (fun b5 b6 b7 b8 b9 b10 b11 b12 b13 b14 h => br_f (by decide) ⟨pk_in 2 16 (by decide), br_f ?_ ⟨pk_in 2 16 (by decide), ?_⟩⟩)
  · rw [show b6 (2 : Int32).toNatClampNeg = 0 from h.2.2.2.1]
    decide
  · exact ek_v (P := fun x => post x (3, 3, 1, 0, 1, 2, a1, a2, a3, a4, b5, b6, b7, b8, b9, b10, b11, b12, b13, b14)) (show b5 (2 : Int32).toNatClampNeg = 1 from h.2.2.1) (H _ _ _ _ _ _ _ _ _ _ _ _ _ _ _)
theorem mx_depth1 {post : Int32 → St2 → Prop} {k v a b : Int32} (hB : mx_B k v a b a1 a2 a3 a4) (hk : k < 3)
    (H : ∀ (fn fo fw ff ft : Int32) (b5 b6 b7 b8 b9 b10 b11 b12 b13 b14 : Nat → Int32), post 1 (3, fn, fo, fw, ff, ft, a1, a2, a3, a4, b5, b6, b7, b8, b9, b10, b11, b12, b13, b14)) : wpX_depth post (3, fn, fo, fw, ff, ft, a1, a2, a3, a4, a5, a6, a7, a8, a9, a10, a11, a12, a13, a14) 2 := by
  unfold wpX_depth
  exact mx_R3 hB hk (fun b5 b6 b7 b8 b9 b10 b11 b12 b13 b14 h => br_f (by decide) (br_f (by decide) (br_t (by decide) ⟨0 + 1 + 1 + 1, mx_dep h (H _ _ _ _ _ _ _ _ _ _ _ _ _ _ _)⟩)))
theorem mx_strength1 {post : Int32 → St2 → Prop} {k v a b : Int32} (hB : mx_B k v a b a1 a2 a3 a4) (hk : k < 3)
    (H : ∀ (fn fo fw ff ft : Int32) (b5 b6 b7 b8 b9 b10 b11 b12 b13 b14 : Nat → Int32), post 0 (3, fn, fo, fw, ff, ft, a1, a2, a3, a4, b5, b6, b7, b8, b9, b10, b11, b12, b13, b14)) : wpX_strength post (3, fn, fo, fw, ff, ft, a1, a2, a3, a4, a5, a6, a7, a8, a9, a10, a11, a12, a13, a14) := by
  unfold wpX_strength
  refine mx_R3 hB hk (fun b5 b6 b7 b8 b9 b10 b11 b12 b13 b14 h => br_f (by decide) ⟨pk_in 2 16 (by decide), ?_⟩)
  exact ek_v (P := fun x => post x (3, 3, 1, 0, 1, 2, a1, a2, a3, a4, b5, b6, b7, b8, b9, b10, b11, b12, b13, b14)) (show b8 (2 : Int32).toNatClampNeg = 0 from h.2.2.2.2.2.1) (H _ _ _ _ _ _ _ _ _ _ _ _ _ _ _)
/-! an operator before or behind -/
theorem mx_reads0 {post : Int32 → St2 → Prop} {k v a b : Int32} (hB : mx_B k v a b a1 a2 a3 a4) (hk : k = 3 ∨ k = 4)
    (H : ∀ (fn fo fw ff ft : Int32) (b5 b6 b7 b8 b9 b10 b11 b12 b13 b14 : Nat → Int32), post 0 (3, fn, fo, fw, ff, ft, a1, a2, a3, a4, b5, b6, b7, b8, b9, b10, b11, b12, b13, b14)) : wpX_reads post (3, fn, fo, fw, ff, ft, a1, a2, a3, a4, a5, a6, a7, a8, a9, a10, a11, a12, a13, a14) := by
  unfold wpX_reads
  exact mx_R0 hB hk (by decide) (by decide) (by decide) (fun _ _ _ _ _ _ _ _ _ _ _ _ _ _ _ => ⟨rfl, H _ _ _ _ _ _ _ _ _ _ _ _ _ _ _⟩)
theorem mx_value0 {post : Int32 → St2 → Prop} {k v a b : Int32} (hB : mx_B k v a b a1 a2 a3 a4) (hk : k = 3 ∨ k = 4)
    (H : ∀ (fn fo fw ff ft : Int32) (b5 b6 b7 b8 b9 b10 b11 b12 b13 b14 : Nat → Int32), post 0 (3, fn, fo, fw, ff, ft, a1, a2, a3, a4, b5, b6, b7, b8, b9, b10, b11, b12, b13, b14)) : wpX_value post (3, fn, fo, fw, ff, ft, a1, a2, a3, a4, a5, a6, a7, a8, a9, a10, a11, a12, a13, a14) := by
  unfold wpX_value
  exact mx_R0 hB hk (by decide) (by decide) (by decide) (fun _ _ _ _ _ _ _ _ _ _ _ _ _ _ _ => br_t rfl (H _ _ _ _ _ _ _ _ _ _ _ _ _ _ _))
theorem mx_root0 {post : Int32 → St2 → Prop} {k v a b : Int32} (hB : mx_B k v a b a1 a2 a3 a4) (hk : k = 3 ∨ k = 4)
    (H : ∀ (fn fo fw ff ft : Int32) (b5 b6 b7 b8 b9 b10 b11 b12 b13 b14 : Nat → Int32), post (-4) (3, fn, fo, fw, ff, ft, a1, a2, a3, a4, b5, b6, b7, b8, b9, b10, b11, b12, b13, b14)) : wpX_root post (3, fn, fo, fw, ff, ft, a1, a2, a3, a4, a5, a6, a7, a8, a9, a10, a11, a12, a13, a14) := by
  unfold wpX_root
  exact mx_R0 hB hk (by decide) (by decide) (by decide) (fun _ _ _ _ _ _ _ _ _ _ _ _ _ _ _ => br_t rfl (H _ _ _ _ _ _ _ _ _ _ _ _ _ _ _))
theorem mx_depth0 {post : Int32 → St2 → Prop} {k v a b : Int32} (hB : mx_B k v a b a1 a2 a3 a4) (hk : k = 3 ∨ k = 4)
    (H : ∀ (fn fo fw ff ft : Int32) (b5 b6 b7 b8 b9 b10 b11 b12 b13 b14 : Nat → Int32), post (-4) (3, fn, fo, fw, ff, ft, a1, a2, a3, a4, b5, b6, b7, b8, b9, b10, b11, b12, b13, b14)) : wpX_depth post (3, fn, fo, fw, ff, ft, a1, a2, a3, a4, a5, a6, a7, a8, a9, a10, a11, a12, a13, a14) 2 := by
  unfold wpX_depth
  exact mx_R0 hB hk (by decide) (by decide) (by decide) (fun _ _ _ _ _ _ _ _ _ _ _ _ _ _ _ => br_t rfl (H _ _ _ _ _ _ _ _ _ _ _ _ _ _ _))
theorem mx_strength0 {post : Int32 → St2 → Prop} {k v a b : Int32} (hB : mx_B k v a b a1 a2 a3 a4) (hk : k = 3 ∨ k = 4)
    (H : ∀ (fn fo fw ff ft : Int32) (b5 b6 b7 b8 b9 b10 b11 b12 b13 b14 : Nat → Int32), post (-4) (3, fn, fo, fw, ff, ft, a1, a2, a3, a4, b5, b6, b7, b8, b9, b10, b11, b12, b13, b14)) : wpX_strength post (3, fn, fo, fw, ff, ft, a1, a2, a3, a4, a5, a6, a7, a8, a9, a10, a11, a12, a13, a14) := by
  unfold wpX_strength
  exact mx_R0 hB hk (by decide) (by decide) (by decide) (fun _ _ _ _ _ _ _ _ _ _ _ _ _ _ _ => br_t rfl (H _ _ _ _ _ _ _ _ _ _ _ _ _ _ _))
/-! endings: twenty readings of four tokens -/
theorem mx_R4x {post : Int32 → St2 → Prop} {k v a b : Int32} {i : Nat} (hB : mx_B k v a b a1 a2 a3 a4) (hk : k < 3 ∨ (k = 3 ∨ k = 4)) (hi : i < 20) (h4 : a4 3 = nI i)
    (H : ∀ (fn fo fw ff ft : Int32) (b5 b6 b7 b8 b9 b10 b11 b12 b13 b14 : Nat → Int32), post 0 (4, fn, fo, fw, ff, ft, a1, a2, a3, a4, b5, b6, b7, b8, b9, b10, b11, b12, b13, b14)) : wpX_readAll post (4, fn, fo, fw, ff, ft, a1, a2, a3, a4, a5, a6, a7, a8, a9, a10, a11, a12, a13, a14) := by
  rcases hk with hk | hk
  · exact mx_R4 hB hk hi h4 H
  · exact mx_R0 hB hk (by decide) (by decide) (by decide) H
theorem mx_end {post : Int32 → St2 → Prop} {k v a b : Int32} (hk : k < 3 ∨ (k = 3 ∨ k = 4))
    (H : ∀ (fn fo fw ff ft : Int32) (b4 b5 b6 b7 b8 b9 b10 b11 b12 b13 b14 : Nat → Int32), post 0 (3, fn, fo, fw, ff, ft, a1, a2, a3, b4, b5, b6, b7, b8, b9, b10, b11, b12, b13, b14)) :
    ∀ (d i : Nat), i + d = 20 → ∀ (fn fo fw ff ft : Int32) (b4 b5 b6 b7 b8 b9 b10 b11 b12 b13 b14 : Nat → Int32), mx_B k v a b a1 a2 a3 b4 → wX_endings_4 post (d + 1) 0 (nI i) 3 fn fo fw ff ft a1 a2 a3 b4 b5 b6 b7 b8 b9 b10 b11 b12 b13 b14 := by
  intro d
  induction d with
  | zero =>
    intro i hi fn fo fw ff ft b4 b5 b6 b7 b8 b9 b10 b11 b12 b13 b14 hB
    exact br_t (nI_lt (a := 19) (by omega) (by omega)) (H _ _ _ _ _ _ _ _ _ _ _ _ _ _ _ _)
  | succ d ih =>
    intro i hi fn fo fw ff ft b4 b5 b6 b7 b8 b9 b10 b11 b12 b13 b14 hB
    refine br_f (nI_nlt (a := 19) (by omega) (by decide)) ⟨pk_in 3 16 (by decide), nm_r (e' := upd b4 3 (nI i)) rfl (nm_r (show (3 : Int32) + 1 = 4 by decide) ?_)⟩
    refine mx_R4x (i := i) (mx_B_upd hB) hk (by omega) pk_us (fun fn fo fw ff ft c5 c6 c7 c8 c9 c10 c11 c12 c13 c14 => nm_r (show (4 : Int32) - 1 = 3 by decide) (br_t rfl (nm_r (nI_1 i) ?_)))
    exact ih (i + 1) (by omega) _ _ _ _ _ _ _ _ _ _ _ _ _ _ _ _ (mx_B_upd hB)
theorem mx_endings {post : Int32 → St2 → Prop} {k v a b : Int32} (hB : mx_B k v a b a1 a2 a3 a4) (hk : k < 3 ∨ (k = 3 ∨ k = 4))
    (H : ∀ (fn fo fw ff ft : Int32) (b4 b5 b6 b7 b8 b9 b10 b11 b12 b13 b14 : Nat → Int32), post 0 (3, fn, fo, fw, ff, ft, a1, a2, a3, b4, b5, b6, b7, b8, b9, b10, b11, b12, b13, b14)) : wpX_endings post (3, fn, fo, fw, ff, ft, a1, a2, a3, a4, a5, a6, a7, a8, a9, a10, a11, a12, a13, a14) := by
  unfold wpX_endings
  exact ⟨20 + 1, mx_end hk H 20 0 rfl _ _ _ _ _ _ _ _ _ _ _ _ _ _ _ _ hB⟩
end
end
section
/-! the maker, and the law -/
theorem mx_ini {s : Nat → Int32} {f : Nat → Int32} {i : Nat} {x : Int32} (hi : i < 8) (h : ∀ j, j < i → s j = f j) (hx : x = f i) : ∀ j, j < i + 1 → upd s (nI i).toNatClampNeg x j = f j := by
  intro j hj
  rw [nI_clamp (by omega)]
  by_cases e : j = i
  · rw [e, pk_us, hx]
  · rw [pk_un e]
    exact h j (by omega)
theorem mx_init {post : St2 → Prop}
    (H : ∀ b2 b3 : Nat → Int32, (∀ j, j < 8 → b2 j = mx_l j) → (∀ j, j < 8 → b3 j = nI (j % 4)) → post (0, 0, 0, 0, 0, 0, fun _ => 0, b2, b3, fun _ => 0, fun _ => 0, fun _ => 0, fun _ => 0, fun _ => 0, fun _ => 0, fun _ => 0, fun _ => 0, fun _ => 0, fun _ => 0, fun _ => 0)) :
    wpX_init post 14 197 (0, 0, 0, 0, 0, 0) := by
  have L : ∃ n, wX_init_117 post 14 197 14 197 0 0 0 0 0 0 n 0 (fun _ => 0) (fun _ => 0) (fun _ => 0) (fun _ => 0) (fun _ => 0) (fun _ => 0) (fun _ => 0) (fun _ => 0) (fun _ => 0) (fun _ => 0) (fun _ => 0) (fun _ => 0) (fun _ => 0) (fun _ => 0) := by
    refine pk_loop (σ := (Nat → Int32) × (Nat → Int32)) (fun n i s => wX_init_117 post 14 197 14 197 0 0 0 0 0 0 n (nI i) (fun _ => 0) s.1 s.2 (fun _ => 0) (fun _ => 0) (fun _ => 0) (fun _ => 0) (fun _ => 0) (fun _ => 0) (fun _ => 0) (fun _ => 0) (fun _ => 0) (fun _ => 0) (fun _ => 0))
      (fun i s => (∀ j, j < i → s.1 j = mx_l j) ∧ (∀ j, j < i → s.2 j = nI (j % 4))) 8 0 ((fun _ => 0), (fun _ => 0)) (by omega) ⟨fun j hj => absurd hj (by omega), fun j hj => absurd hj (by omega)⟩ ?_ ?_
    · intro n s h
      exact br_t (by decide) (H s.1 s.2 h.1 h.2)
    · intro n i s hi h hw
      have i8 : vp_in (nI i) 8 := vp_in_nI hi (by decide)
      have e3 : nI i &&& 3 = nI (i % 4) := pk_andN (by omega) 2 (by decide)
      have fin : ∀ x, x = mx_l i → wX_init_143 post 14 197 (wX_init_117 post 14 197 14 197 0 0 0 0 0 0 n) (nI i) x (nI i) 14 197 0 0 0 0 0 0 (fun _ => 0) s.1 s.2 (fun _ => 0) (fun _ => 0) (fun _ => 0) (fun _ => 0) (fun _ => 0) (fun _ => 0) (fun _ => 0) (fun _ => 0) (fun _ => 0) (fun _ => 0) (fun _ => 0) := by
        intro x hx
        unfold wX_init_143
        exact ⟨i8, nm_e ⟨i8, nm_e (nm_r (nI_1 i) (hw (_, _) ⟨mx_ini hi h.1 hx, mx_ini (f := fun j => nI (j % 4)) hi h.2 e3⟩))⟩⟩
      refine br_f (nI_ge (b := 8) hi (by decide)) (pk_le 6 i (fun z => fin _ ?_) (fun z => ⟨by decide, fin _ ?_⟩))
      · unfold mx_l
        rw [if_neg (by omega)]
        exact pk_sub (b := 3) (by omega)
      · unfold mx_l
        rw [if_pos z]
        exact pk_div (d := 2) (by omega) (by decide) (by decide)
  unfold wpX_init
  exact ⟨by decide, by decide, by decide, by decide, by decide, by decide, by decide, by decide, by decide, by decide, by decide, by decide, by decide, by decide, by decide, by decide, by decide, by decide, by decide, by decide, by decide, by decide, by decide, by decide, by decide, by decide, by decide, by decide, L⟩
/-- the checks, an operator between -/
theorem mx_fin1 {post : Int32 → St0 → Prop} {mc ms kc ks : Nat} {x5 x6 x7 v : Int32} (h0 : x7 = 0 → v = x5 + x6) (h1 : ¬ x7 = 0 → v = x5 - x6) (H : post 1 ()) : wL_lawOf_121 post mc ms x5 x6 x7 1 v 1 1 0 0 1 kc ks := by
  have e : ∀ z, v = z → wL_lawOf_141 post mc ms 1 v 1 1 0 0 1 z kc ks := fun z hz =>
    br_t rfl (br_f (by decide) (br_t hz (br_f (by decide) (br_t rfl (br_f (by decide) (br_t rfl (br_f (by decide) (br_t rfl (br_t rfl H)))))))))
  exact br_c (fun z => e _ (h0 z)) (fun z => e _ (h1 z))
/-- the checks, an operator before or behind -/
theorem mx_fin0 {post : Int32 → St0 → Prop} {mc ms kc ks : Nat} {x5 x6 x7 : Int32} (H : post 1 ()) : wL_lawOf_121 post mc ms x5 x6 x7 0 0 (-4) (-4) (-4) 0 0 kc ks := by
  have e : ∀ z, wL_lawOf_141 post mc ms 0 0 (-4) (-4) (-4) 0 0 z kc ks := fun z =>
    br_t rfl (br_t rfl (br_t rfl (br_t rfl (br_t rfl (br_t rfl (br_t rfl (br_t rfl (br_t rfl (br_t rfl H)))))))))
  exact br_c (fun z => e _) (fun z => e _)
theorem mx_rem (x : Int32) {m : Int32} (k d : Nat) (hm : m.toBitVec.toNat = 2 ^ k - 1) (hk : 2 ^ k < 2 ^ 31) (h0 : 0 < d) (hd : d < 2 ^ 31) : ∃ j : Nat, j < d ∧ (x &&& m) - (x &&& m) / nI d * nI d = nI j := by
  obtain ⟨j, hj, e⟩ := pk_andE x k hm
  rw [e, pk_rem (by omega) h0 hd]
  exact ⟨j % d, Nat.mod_lt _ h0, rfl⟩
theorem mx_law {post : Int32 → St0 → Prop} (p0 p1 p2 : Int32) (H : post 1 ()) : wpL_lawOf post 15 217 () p0 p1 p2 := by
  obtain ⟨k, hk, ek⟩ := mx_rem p0 (m := 7) 3 5 (by decide) (by decide) (by decide) (by decide)
  obtain ⟨a, ha, ea⟩ := mx_rem p1 (m := 15) 4 10 (by decide) (by decide) (by decide) (by decide)
  obtain ⟨b, hb, eb⟩ := mx_rem (p1 >>> ((4 : Int32) &&& 31)) (m := 15) 4 10 (by decide) (by decide) (by decide) (by decide)
  obtain ⟨o, ho, eo⟩ := pk_andE p2 (m := 1) 1 (by decide)
  unfold wpL_lawOf
  refine ⟨by decide, by decide, 14, 197, by decide, by decide, mx_init (fun b2 b3 h2 h3 => ?_)⟩
  refine ⟨by decide, nm_r ek ⟨by decide, nm_r ea ⟨by decide, nm_r eb (nm_r eo ?_)⟩⟩⟩
  refine mx_level (nI_pos (by omega)) (nI_le (b := 4) (by omega) (by decide)) (fun _ => ?_)
  refine mx_token (c' := 1) (nI_pos (by omega)) (nI_le (b := 19) (by omega) (by decide)) (by decide) (pk_in 0 16 (by decide)) (by decide) ?_
  have e10 : 10 + nI o = nI (10 + o) := nI_add 10 o
  refine mx_token (c' := 2) (by rw [e10]; exact nI_pos (by omega)) (by rw [e10]; exact nI_le (b := 19) (by omega) (by decide)) (by decide) (pk_in 1 16 (by decide)) (by decide) ?_
  refine mx_token (c' := 3) (nI_pos (by omega)) (nI_le (b := 19) (by omega) (by decide)) (by decide) (pk_in 2 16 (by decide)) (by decide) ?_
  have hv : ∃ v : Int32, (nI o = 0 → v = nI a + nI b) ∧ (¬ nI o = 0 → v = nI a - nI b) ∧ mx_B (nI k) v (nI a) (nI b) (upd (fun _ => 0) 0 (nI k)) b2 b3 (upd (upd (upd (fun _ => 0) (0 : Int32).toNatClampNeg (nI a)) (1 : Int32).toNatClampNeg (10 + nI o)) (2 : Int32).toNatClampNeg (nI b)) := by
    have c1 : (upd (fun _ => 0) 0 (nI k)) 0 = nI k ∧ ∀ j, j < 4 → (upd (fun _ => 0) 0 (nI k)) (j + 1) = 0 := ⟨pk_us, fun j _ => pk_un (by omega)⟩
    have c3 : (upd (upd (upd (fun _ => 0) (0 : Int32).toNatClampNeg (nI a)) (1 : Int32).toNatClampNeg (10 + nI o)) (2 : Int32).toNatClampNeg (nI b)) 0 = nI a := mx_un (by decide) (mx_un (by decide) (mx_us (by decide)))
    have c4 : (upd (upd (upd (fun _ => 0) (0 : Int32).toNatClampNeg (nI a)) (1 : Int32).toNatClampNeg (10 + nI o)) (2 : Int32).toNatClampNeg (nI b)) 2 = nI b := mx_us (by decide)
    have c5 : (upd (upd (upd (fun _ => 0) (0 : Int32).toNatClampNeg (nI a)) (1 : Int32).toNatClampNeg (10 + nI o)) (2 : Int32).toNatClampNeg (nI b)) 1 = 10 + nI o := mx_un (by decide) (mx_us (by decide))
    have n10 : ∀ x : Nat, x < 10 → ¬ 10 ≤ nI x := fun x hx => nI_ge (b := 10) hx (by decide)
    rcases o with _ | _ | o
    · exact ⟨nI a + nI b, fun _ => rfl, fun z => absurd rfl z, c1, h2, ⟨c3, c4, n10 a ha, n10 b hb⟩, Or.inl ⟨c5, h3 0 (by decide), rfl⟩⟩
    · exact ⟨nI a - nI b, fun z => absurd z (by decide), fun _ => rfl, c1, h2, ⟨c3, c4, n10 a ha, n10 b hb⟩, Or.inr ⟨c5, h3 1 (by decide), rfl⟩⟩
    · exact absurd ho (by omega)
  obtain ⟨v, v0, v1, hB⟩ := hv
  by_cases z : k < 3
  · have hk3 : nI k < 3 := nI_lt (b := 3) z (by decide)
    refine mx_reads1 hB hk3 (fun _ _ _ _ _ _ _ _ _ _ _ _ _ _ _ => ?_)
    refine mx_value1 hB hk3 (fun _ _ _ _ _ _ _ _ _ _ _ _ _ _ _ => ?_)
    refine mx_root1 hB hk3 (fun _ _ _ _ _ _ _ _ _ _ _ _ _ _ _ => ?_)
    refine mx_depth1 hB hk3 (fun _ _ _ _ _ _ _ _ _ _ _ _ _ _ _ => ?_)
    refine mx_strength1 hB hk3 (fun _ _ _ _ _ _ _ _ _ _ _ _ _ _ _ => ?_)
    refine mx_endings hB (Or.inl hk3) (fun _ _ _ _ _ _ _ _ _ _ _ _ _ _ _ _ => ?_)
    exact br_f (nI_ge (b := 3) z (by decide)) (mx_fin1 v0 v1 H)
  · have hk3 : nI k = 3 ∨ nI k = 4 := by
      rcases Nat.lt_or_ge k 4 with y | y
      · exact Or.inl (by rw [show k = 3 by omega]; rfl)
      · exact Or.inr (by rw [show k = 4 by omega]; rfl)
    refine mx_reads0 hB hk3 (fun _ _ _ _ _ _ _ _ _ _ _ _ _ _ _ => ?_)
    refine mx_value0 hB hk3 (fun _ _ _ _ _ _ _ _ _ _ _ _ _ _ _ => ?_)
    refine mx_root0 hB hk3 (fun _ _ _ _ _ _ _ _ _ _ _ _ _ _ _ => ?_)
    refine mx_depth0 hB hk3 (fun _ _ _ _ _ _ _ _ _ _ _ _ _ _ _ => ?_)
    refine mx_strength0 hB hk3 (fun _ _ _ _ _ _ _ _ _ _ _ _ _ _ _ => ?_)
    refine mx_endings hB (Or.inr hk3) (fun _ _ _ _ _ _ _ _ _ _ _ _ _ _ _ _ => ?_)
    exact br_t (nI_le (a := 3) (by omega) (by omega)) (mx_fin0 H)
end
section
theorem mx_cell {post : Int32 → Prop} {L : Nat} {xs : Nat → Int32} (j : Nat) (hL : L ≤ 3) (hj : j < 3) (H : ∀ x, post x) : wpL_cellAt post L xs () (nI j) := by
  unfold wpL_cellAt
  exact pk_le L j (fun _ => H _) (fun h => ⟨pk_in j L h, H _⟩)
theorem i_vc (xs : Nat → Int32) (L : Nat) (hL : L ≤ 3) : wpL_law (fun r => r = 1) L xs := by
  unfold wpL_law
  exact mx_cell 0 hL (by decide) (fun r1 => mx_cell 1 hL (by decide) (fun r2 => mx_cell 2 hL (by decide) (fun r3 => ⟨15, 217, by decide, by decide, mx_law r1 r2 r3 rfl⟩)))
end
