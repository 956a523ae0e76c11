section
/-! part 1: small facts, and the small methods -/
theorem tf_fill {c : Int32} {s : Nat → Int32} {i k : Nat} (hk : k = i) (h : ∀ j, j < i → s j = c) : ∀ j, j < i + 1 → upd s k c j = c := by
  intro j hj
  rw [hk]
  by_cases e : j = i
  · rw [e, pk_us]
  · rw [pk_un e]
    exact h j (by omega)
/-- the law's three-address operations: 0 to 3 -/
def tf_op (x : Int32) : Prop := x = 0 ∨ x = 1 ∨ x = 2 ∨ x = 3
/-- what such an operation answers -/
def tf_val (x p q : Int32) : Int32 := if x = 1 then p - q else if x = 2 then p ^^^ q else if x = 3 then (if q ≤ p then 0 else 1) else p + q
theorem tf_o {x : Int32} (h : tf_op x) : ¬ x < 0 ∧ x ≤ 10 ∧ ¬ 8 < x ∧ ¬ 6 < x ∧ ¬ 3 < x ∧ ¬ x = 7 ∧ ¬ x = 8 ∧ ¬ x = 9 ∧ x < 7 ∧ x.toInt8.toInt32 = x ∧ ¬ x = 10 ∧ x < 9 ∧ ¬ x = 6 ∧ ¬ 5 < x ∧ ¬ x = 5 ∧ ¬ 4 < x ∧ ¬ x = 4 ∧ ¬ x = 11 := by
  rcases h with rfl | rfl | rfl | rfl <;> decide
theorem tf_forget {post : St2 → Prop} {ln pc st fi hd en fp rt : Int32} {a1 a2 a3 a4 a5 a6 a7 a8 a9 a10 a11 a12 a13 a14 a15 a16 a17 a18 a19 a20 a21 a22 : Nat → Int32} (H : ∀ b : Nat → Int32, (∀ j, j < 8 → b j = 0) → post (ln, pc, st, 0, hd, en, fp, rt, a1, a2, a3, a4, a5, a6, a7, b, a9, a10, a11, a12, a13, a14, a15, a16, a17, a18, a19, a20, a21, a22)) : wpX_forgetTraces post (ln, pc, st, fi, hd, en, fp, rt, a1, a2, a3, a4, a5, a6, a7, a8, a9, a10, a11, a12, a13, a14, a15, a16, a17, a18, a19, a20, a21, a22) :=
  pk_loop (fun n i s => wX_forgetTraces_2 post ln pc st fi hd en fp rt n (nI i) a1 a2 a3 a4 a5 a6 a7 s a9 a10 a11 a12 a13 a14 a15 a16 a17 a18 a19 a20 a21 a22) (fun i s => ∀ j, j < i → s j = 0) 8 0 a8 (by omega) (fun j hj => absurd hj (by omega))
    (fun n s h => pk_le 8 8 (fun _ => H s h) (fun z => absurd z (by omega)))
    (fun n i s hi h hw => pk_le 8 i (fun z => absurd z (by omega)) (fun _ => ⟨pk_in i 8 (by omega), nm_e (nm_r (nI_1 i) (hw _ (tf_fill (nI_clamp (by omega)) h)))⟩))
theorem tf_squash {post : St2 → Prop} {ln pc st fi hd en fp rt : Int32} {a1 a2 a3 a4 a5 a6 a7 a8 a9 a10 a11 a12 a13 a14 a15 a16 a17 a18 a19 a20 a21 a22 : Nat → Int32} (H : ∀ b : Nat → Int32, (∀ j, j < 8 → b j = -1) → post (ln, pc, st, fi, hd, 0, pc, rt, a1, a2, a3, a4, a5, a6, a7, a8, a9, a10, a11, a12, a13, a14, a15, a16, a17, a18, a19, a20, a21, b)) : wpX_squash post (ln, pc, st, fi, hd, en, fp, rt, a1, a2, a3, a4, a5, a6, a7, a8, a9, a10, a11, a12, a13, a14, a15, a16, a17, a18, a19, a20, a21, a22) :=
  pk_loop (fun n i s => wX_squash_15 post ln pc st fi hd 0 pc rt n (nI i) a1 a2 a3 a4 a5 a6 a7 a8 a9 a10 a11 a12 a13 a14 a15 a16 a17 a18 a19 a20 a21 s) (fun i s => ∀ j, j < i → s j = -1) 8 0 a22 (by omega) (fun j hj => absurd hj (by omega))
    (fun n s h => pk_le 8 8 (fun _ => H s h) (fun z => absurd z (by omega)))
    (fun n i s hi h hw => pk_le 8 i (fun z => absurd z (by omega)) (fun _ => ⟨pk_in i 8 (by omega), nm_e (nm_r (nI_1 i) (hw _ (tf_fill (nI_clamp (by omega)) h)))⟩))
theorem tf_isReg {post : Int32 → Prop} {ln pc st fi hd en fp rt : Int32} {a1 a2 a3 a4 a5 a6 a7 a8 a9 a10 a11 a12 a13 a14 a15 a16 a17 a18 a19 a20 a21 a22 : Nat → Int32} {r : Int32} (h0 : ¬ r < 0) (h7 : ¬ 7 < r) (H : post 1) : wpX_isRegister post (ln, pc, st, fi, hd, en, fp, rt, a1, a2, a3, a4, a5, a6, a7, a8, a9, a10, a11, a12, a13, a14, a15, a16, a17, a18, a19, a20, a21, a22) r :=
  br_f h0 (br_f h7 H)
theorem tf_setReg {post : Int32 → St2 → Prop} {ln pc st fi hd en fp rt : Int32} {a1 a2 a3 a4 a5 a6 a7 a8 a9 a10 a11 a12 a13 a14 a15 a16 a17 a18 a19 a20 a21 a22 : Nat → Int32} {r v : Int32} (i : Nat) (h0 : ¬ r < 0) (h7 : ¬ 7 < r) (hv : vp_in r 8) (hi : r.toNatClampNeg = i) (H : post 1 (ln, pc, st, fi, hd, en, fp, rt, a1, a2, a3, a4, upd a5 i v, a6, a7, a8, a9, a10, a11, a12, a13, a14, a15, a16, a17, a18, a19, a20, a21, a22)) : wpX_setRegister post (ln, pc, st, fi, hd, en, fp, rt, a1, a2, a3, a4, a5, a6, a7, a8, a9, a10, a11, a12, a13, a14, a15, a16, a17, a18, a19, a20, a21, a22) r v := by
  subst hi
  unfold wpX_setRegister
  dsimp only
  exact tf_isReg h0 h7 (br_f (by decide) ⟨hv, nm_e H⟩)
theorem tf_e72 {post : Int32 → St2 → Prop} {ln pc st fi hd en fp rt : Int32} {a1 a2 a3 a4 a5 a6 a7 a8 a9 a10 a11 a12 a13 a14 a15 a16 a17 a18 a19 a20 a21 a22 : Nat → Int32} {x1 x2 x3 x4 l b1 b2 b3 : Int32} {i : Nat} (h7e : ¬ x1 = 7) (h8 : ¬ x1 = 8) (h9 : ¬ x1 = 9) (h7 : x1 < 7) (hv : vp_in ln 24) (hi : ln.toNatClampNeg = i) (hl : ln + 1 = l) (e1 : x1.toInt8.toInt32 = b1) (e2 : x2.toInt8.toInt32 = b2) (e3 : x3.toInt8.toInt32 = b3)
    (H : ∀ b : Nat → Int32, (∀ j, j < 8 → b j = 0) → post l (l, pc, st, 0, hd, en, fp, rt, upd a1 i b1, upd a2 i b2, upd a3 i b3, upd a4 i x4, a5, a6, upd a7 i 1, b, a9, a10, a11, a12, a13, a14, a15, a16, a17, a18, a19, a20, a21, a22)) :
    wX_emit_72 post x1 x2 x3 x4 ln pc st fi hd en fp rt a1 a2 a3 a4 a5 a6 a7 a8 a9 a10 a11 a12 a13 a14 a15 a16 a17 a18 a19 a20 a21 a22 := by
  subst hi hl e1 e2 e3
  exact br_f h7e (br_f h8 (br_f h9 ⟨hv, nm_e ⟨hv, nm_e ⟨hv, nm_e (br_f h9 (br_t h7 ⟨hv, nm_e ⟨hv, nm_e (nm_e (tf_forget H))⟩⟩))⟩⟩⟩))
/-- emit of a three-address operation over registers 2, 2, 3 at place 0 -/
theorem tf_emitK {post : Int32 → St2 → Prop} {pc st fi hd en fp rt : Int32} {a1 a2 a3 a4 a5 a6 a7 a8 a9 a10 a11 a12 a13 a14 a15 a16 a17 a18 a19 a20 a21 a22 : Nat → Int32} {x : Int32} (hx : tf_op x)
    (H : ∀ b : Nat → Int32, (∀ j, j < 8 → b j = 0) → post 1 (1, pc, st, 0, hd, en, fp, rt, upd a1 0 x, upd a2 0 2, upd a3 0 2, upd a4 0 3, a5, a6, upd a7 0 1, b, a9, a10, a11, a12, a13, a14, a15, a16, a17, a18, a19, a20, a21, a22)) :
    wpX_emit post (0, pc, st, fi, hd, en, fp, rt, a1, a2, a3, a4, a5, a6, a7, a8, a9, a10, a11, a12, a13, a14, a15, a16, a17, a18, a19, a20, a21, a22) x 2 2 3 := by
  obtain ⟨o1, o2, o3, o4, o5, o6, o7, o8, o9, o10, _⟩ := tf_o hx
  refine br_t (by decide) (br_f o1 (br_t o2 (br_f o3 (tf_isReg (by decide) (by decide) (br_f (by decide) ?_)))))
  refine br_f o4 (tf_isReg (by decide) (by decide) (br_f (by decide) ?_))
  refine br_f o5 (tf_isReg (by decide) (by decide) (br_f (by decide) ?_))
  exact tf_e72 o6 o7 o8 o9 (vp_in_iff.mpr (by decide)) (by decide) (by decide) o10 (by decide) (by decide) H
/-- emit of the store of register 2 at (register 3 + n) at place 1 -/
theorem tf_emitS {post : Int32 → St2 → Prop} {pc st fi hd en fp rt : Int32} {a1 a2 a3 a4 a5 a6 a7 a8 a9 a10 a11 a12 a13 a14 a15 a16 a17 a18 a19 a20 a21 a22 : Nat → Int32} {n : Int32}
    (H : ∀ b : Nat → Int32, (∀ j, j < 8 → b j = 0) → post 2 (2, pc, st, 0, hd, en, fp, rt, upd a1 1 6, upd a2 1 2, upd a3 1 3, upd a4 1 n, a5, a6, upd a7 1 1, b, a9, a10, a11, a12, a13, a14, a15, a16, a17, a18, a19, a20, a21, a22)) :
    wpX_emit post (1, pc, st, fi, hd, en, fp, rt, a1, a2, a3, a4, a5, a6, a7, a8, a9, a10, a11, a12, a13, a14, a15, a16, a17, a18, a19, a20, a21, a22) 6 2 3 n := by
  refine br_t (by decide) (br_f (by decide) (br_t (by decide) (br_f (by decide) (tf_isReg (by decide) (by decide) (br_f (by decide) ?_)))))
  refine br_f (by decide) (tf_isReg (by decide) (by decide) (br_f (by decide) ?_))
  refine br_t (by decide) ?_
  exact tf_e72 (by decide) (by decide) (by decide) (by decide) (vp_in_iff.mpr (by decide)) (by decide) (by decide) (by decide) (by decide) (by decide) H
end
section
/-! part 2: predicting, entering, fetching -/
theorem tf_pred {post : Int32 → Prop} {ln pc st fi hd en fp rt : Int32} {a1 a2 a3 a4 a5 a6 a7 a8 a9 a10 a11 a12 a13 a14 a15 a16 a17 a18 a19 a20 a21 a22 : Nat → Int32} {x op y : Int32} (hl : x < ln) (hv : vp_in x 24) (ho : a1 x.toNatClampNeg = op) (h10 : ¬ op = 10) (h9 : ¬ op = 9) (h7 : ¬ op = 7) (h8 : ¬ op = 8) (hy : x + 1 = y) (H : post y) : wpX_predictedAfter post (ln, pc, st, fi, hd, en, fp, rt, a1, a2, a3, a4, a5, a6, a7, a8, a9, a10, a11, a12, a13, a14, a15, a16, a17, a18, a19, a20, a21, a22) x := by
  subst hy
  exact br_t hl ⟨hv, nm_r ho (br_f h10 (br_f h9 (br_f h7 (br_f h8 (br_t rfl H)))))⟩
theorem tf_predO {post : Int32 → Prop} {ln pc st fi hd en fp rt : Int32} {a1 a2 a3 a4 a5 a6 a7 a8 a9 a10 a11 a12 a13 a14 a15 a16 a17 a18 a19 a20 a21 a22 : Nat → Int32} {x : Int32} (hl : ¬ x < ln) (H : post x) : wpX_predictedAfter post (ln, pc, st, fi, hd, en, fp, rt, a1, a2, a3, a4, a5, a6, a7, a8, a9, a10, a11, a12, a13, a14, a15, a16, a17, a18, a19, a20, a21, a22) x :=
  br_f hl H
/-- an operand that stands in the registers -/
theorem tf_bl0 {post : St2 → Prop} {ln pc st fi hd en fp rt : Int32} {a1 a2 a3 a4 a5 a6 a7 a8 a9 a10 a11 a12 a13 a14 a15 a16 a17 a18 a19 a20 a21 a22 : Nat → Int32} {e r r' : Int32} (i j : Nat) (er : r = r') (hr : vp_in r' 8) (he : vp_in e 8) (hi : e.toNatClampNeg = i) (hj : r'.toNatClampNeg = j) (h22 : a22 j = -1) (H : post (ln, pc, st, fi, hd, en, fp, rt, a1, a2, a3, a4, a5, a6, a7, a8, a9, a10, a11, a12, a13, a14, upd a15 i (a5 j), a16, a17, a18, a19, a20, a21, a22)) : wpX_bindLeft post (ln, pc, st, fi, hd, en, fp, rt, a1, a2, a3, a4, a5, a6, a7, a8, a9, a10, a11, a12, a13, a14, a15, a16, a17, a18, a19, a20, a21, a22) e r := by
  subst er hi hj
  exact ⟨hr, nm_r h22 (br_t (by decide) (br_t (by decide) ⟨hr, he, nm_e H⟩))⟩
theorem tf_br0 {post : St2 → Prop} {ln pc st fi hd en fp rt : Int32} {a1 a2 a3 a4 a5 a6 a7 a8 a9 a10 a11 a12 a13 a14 a15 a16 a17 a18 a19 a20 a21 a22 : Nat → Int32} {e r r' : Int32} (i j : Nat) (er : r = r') (hr : vp_in r' 8) (he : vp_in e 8) (hi : e.toNatClampNeg = i) (hj : r'.toNatClampNeg = j) (h22 : a22 j = -1) (H : post (ln, pc, st, fi, hd, en, fp, rt, a1, a2, a3, a4, a5, a6, a7, a8, a9, a10, a11, a12, a13, a14, a15, a16, upd a17 i (a5 j), a18, a19, a20, a21, a22)) : wpX_bindRight post (ln, pc, st, fi, hd, en, fp, rt, a1, a2, a3, a4, a5, a6, a7, a8, a9, a10, a11, a12, a13, a14, a15, a16, a17, a18, a19, a20, a21, a22) e r := by
  subst er hi hj
  exact ⟨hr, nm_r h22 (br_t (by decide) (br_t (by decide) ⟨hr, he, nm_e H⟩))⟩
/-- an operand that an entry which is done gives -/
theorem tf_br1 {post : St2 → Prop} {ln pc st fi hd en fp rt : Int32} {a1 a2 a3 a4 a5 a6 a7 a8 a9 a10 a11 a12 a13 a14 a15 a16 a17 a18 a19 a20 a21 a22 : Nat → Int32} {e r r' f v : Int32} (i j m : Nat) (er : r = r') (hr : vp_in r' 8) (he : vp_in e 8) (hi : e.toNatClampNeg = i) (hj : r'.toNatClampNeg = j) (hf : f.toNatClampNeg = m) (h22 : a22 j = f) (hn : ¬ f < 0) (vf : vp_in f 8) (h20 : ¬ a20 m = 0) (h21 : a21 m = v) (H : post (ln, pc, st, fi, hd, en, fp, rt, a1, a2, a3, a4, a5, a6, a7, a8, a9, a10, a11, a12, a13, a14, a15, a16, upd a17 i v, a18, a19, a20, a21, a22)) : wpX_bindRight post (ln, pc, st, fi, hd, en, fp, rt, a1, a2, a3, a4, a5, a6, a7, a8, a9, a10, a11, a12, a13, a14, a15, a16, a17, a18, a19, a20, a21, a22) e r := by
  subst er hi hj hf h21
  exact ⟨hr, nm_r h22 (br_f hn ⟨vf, br_f h20 (br_f hn ⟨vf, he, nm_e H⟩)⟩)⟩
theorem tf_nar0 : vp_nar .boolean 0 = 0 := by decide
theorem tf_nar1 : vp_nar .boolean 1 = 1 := by decide
theorem tf_u {f : Nat → Int32} {i : Nat} {x y : Int32} (h : x = y) : upd f i x = upd f i y := by rw [h]
/-- a place without an instruction enters -/
theorem tf_enterN {post : St2 → Prop} {ln pc st fi hd en fp rt : Int32} {a1 a2 a3 a4 a5 a6 a7 a8 a9 a10 a11 a12 a13 a14 a15 a16 a17 a18 a19 a20 a21 a22 : Nat → Int32} {x e en1 : Int32} (i : Nat) (hl : ln ≤ x) (he : (hd + en) &&& 7 = e) (hv : vp_in e 8) (hi : e.toNatClampNeg = i) (h1 : en + 1 = en1) (hx : x.toInt8.toInt32 = x)
    (H : post (ln, pc, st, fi, hd, en1, fp, rt, a1, a2, a3, a4, a5, a6, a7, a8, a9, a10, upd a11 i x, upd a12 i 11, upd a13 i x, upd a14 i (-1), a15, upd a16 i (-1), a17, upd a18 i 0, a19, upd a20 i 1, a21, a22)) :
    wpX_enter post (ln, pc, st, fi, hd, en, fp, rt, a1, a2, a3, a4, a5, a6, a7, a8, a9, a10, a11, a12, a13, a14, a15, a16, a17, a18, a19, a20, a21, a22) x x := by
  subst hi h1
  refine nm_r he (br_t hl (nm_e ⟨hv, nm_r (tf_u hx) ⟨hv, nm_r (tf_u (y := 11) (by decide)) ⟨hv, nm_r (tf_u hx) (br_f (by decide) ?_)⟩⟩⟩))
  exact ⟨hv, nm_r (tf_u tf_nar1) ⟨hv, nm_e ⟨hv, nm_e ⟨hv, nm_e (br_f (by decide) H)⟩⟩⟩⟩
/-- the operation at place 0 enters as entry 0 -/
theorem tf_enterK {post : St2 → Prop} {pc st fi fp rt : Int32} {a1 a2 a3 a4 a5 a6 a7 a8 a9 a10 a11 a12 a13 a14 a15 a16 a17 a18 a19 a20 a21 a22 : Nat → Int32} {x : Int32} (hx : tf_op x) (h1 : a1 0 = x) (h2 : a2 0 = 2) (h3 : a3 0 = 2) (h4 : a4 0 = 3) (h222 : a22 2 = -1) (h223 : a22 3 = -1)
    (H : post (2, pc, st, fi, 0, 1, fp, rt, a1, a2, a3, a4, a5, a6, a7, a8, a9, a10, upd a11 0 0, upd a12 0 x, upd a13 0 1, upd a14 0 (-1), upd a15 0 (a5 2), upd a16 0 (-1), upd a17 0 (a5 3), upd a18 0 0, a19, upd a20 0 0, a21, upd a22 2 0)) :
    wpX_enter post (2, pc, st, fi, 0, 0, fp, rt, a1, a2, a3, a4, a5, a6, a7, a8, a9, a10, a11, a12, a13, a14, a15, a16, a17, a18, a19, a20, a21, a22) 0 1 := by
  obtain ⟨o1, o2, o3, o4, o5, o6, o7, o8, o9, o10, o11, o12, o13, o14, _⟩ := tf_o hx
  have v8 : vp_in 0 8 := vp_in_iff.mpr (by decide)
  have v24 : vp_in 0 24 := vp_in_iff.mpr (by decide)
  subst h1
  refine nm_r (e' := 0) (by decide) (br_f (by decide) ⟨v24, nm_r (e' := 1) (by decide) ⟨v8, nm_r (e' := upd a11 0 0) rfl ⟨v8, nm_r (e' := upd a12 0 (a1 0)) (tf_u o10) ⟨v8, nm_r (e' := upd a13 0 1) rfl (br_t o12 ?_)⟩⟩⟩⟩)
  refine ⟨v8, nm_r (e' := upd a20 0 0) (tf_u tf_nar0) ⟨v8, nm_r (e' := upd a18 0 0) rfl ⟨v8, nm_r (e' := upd a14 0 (-1)) rfl ⟨v8, nm_r (e' := upd a16 0 (-1)) rfl (br_t o12 (br_f o4 ⟨v24, ?_⟩))⟩⟩⟩⟩
  refine tf_bl0 (r' := 2) 0 2 h3 (vp_in_iff.mpr (by decide)) v8 (by decide) (by decide) h222 ?_
  refine br_f o5 ⟨v24, ?_⟩
  refine tf_br0 (r' := 3) 0 3 h4 (vp_in_iff.mpr (by decide)) v8 (by decide) (by decide) h223 ?_
  refine br_f o13 (br_f o14 ⟨v24, ?_, ?_⟩)
  · exact (congrArg (fun z => vp_in z 8) h2).mpr (vp_in_iff.mpr (by decide))
  · exact nm_r (e' := upd a22 2 0) (by rw [show a2 (Int32.toNatClampNeg 0) = 2 from h2]; rfl) H
/-- the store at place 1 enters as entry 1, entry 0 being done -/
theorem tf_enterS {post : St2 → Prop} {pc st fi fp rt : Int32} {a1 a2 a3 a4 a5 a6 a7 a8 a9 a10 a11 a12 a13 a14 a15 a16 a17 a18 a19 a20 a21 a22 : Nat → Int32} {v : Int32} (h1 : a1 1 = 6) (h2 : a2 1 = 2) (h3 : a3 1 = 3) (h222 : a22 2 = 0) (h223 : a22 3 = -1) (h20 : a20 0 = 1) (h21 : a21 0 = v)
    (H : post (2, pc, st, fi, 0, 2, fp, rt, a1, a2, a3, a4, a5, a6, a7, a8, a9, a10, upd a11 1 1, upd a12 1 6, upd a13 1 2, upd a14 1 (-1), upd a15 1 (a5 3), upd a16 1 (-1), upd a17 1 v, upd a18 1 0, a19, upd a20 1 0, a21, a22)) :
    wpX_enter post (2, pc, st, fi, 0, 1, fp, rt, a1, a2, a3, a4, a5, a6, a7, a8, a9, a10, a11, a12, a13, a14, a15, a16, a17, a18, a19, a20, a21, a22) 1 2 := by
  have v8 : vp_in 1 8 := vp_in_iff.mpr (by decide)
  have v24 : vp_in 1 24 := vp_in_iff.mpr (by decide)
  refine nm_r (e' := 1) (by decide) (br_f (by decide) ⟨v24, ?_⟩)
  rw [show a1 (Int32.toNatClampNeg 1) = 6 from h1]
  refine nm_r (e' := 2) (by decide) ⟨v8, nm_r (e' := upd a11 1 1) rfl ⟨v8, nm_r (e' := upd a12 1 6) rfl ⟨v8, nm_r (e' := upd a13 1 2) rfl (br_t (by decide) ?_)⟩⟩⟩
  refine ⟨v8, nm_r (e' := upd a20 1 0) (tf_u tf_nar0) ⟨v8, nm_r (e' := upd a18 1 0) rfl ⟨v8, nm_r (e' := upd a14 1 (-1)) rfl ⟨v8, nm_r (e' := upd a16 1 (-1)) rfl (br_t (by decide) (br_f (by decide) ⟨v24, ?_⟩))⟩⟩⟩⟩
  refine tf_bl0 (r' := 3) 1 3 h3 (vp_in_iff.mpr (by decide)) v8 (by decide) (by decide) h223 ?_
  refine br_t (by decide) (br_t rfl ⟨v24, ?_⟩)
  refine tf_br1 (r' := 2) (f := 0) (v := v) 1 2 0 h2 (vp_in_iff.mpr (by decide)) v8 (by decide) (by decide) (by decide) h222 (by decide) (vp_in_iff.mpr (by decide)) ?_ h21 ?_
  · rw [pk_un (by decide), h20]
    decide
  · exact br_t (by decide) H
/-- one instruction is fetched: no line of the cache begins here -/
theorem tf_fetch {post : St2 → Prop} {ln pc st fi hd en fp rt : Int32} {a1 a2 a3 a4 a5 a6 a7 a8 a9 a10 a11 a12 a13 a14 a15 a16 a17 a18 a19 a20 a21 a22 : Nat → Int32} {y : Int32} (hf : fp &&& 7 = fp) (hv : vp_in fp 8) (h8 : a8 fp.toNatClampNeg = 0) (he : ¬ 8 ≤ en)
    (hp : ∀ P : Int32 → Prop, P y → wpX_predictedAfter P (ln, pc, st, fi, hd, en, fp, rt, a1, a2, a3, a4, a5, a6, a7, a8, a9, a10, a11, a12, a13, a14, a15, a16, a17, a18, a19, a20, a21, a22) fp)
    (H : ∀ Q : St2 → Prop, (∀ u, post u → Q u) → wpX_enter Q (ln, pc, st, fi, hd, en, y, rt, a1, a2, a3, a4, a5, a6, a7, a8, a9, a10, a11, a12, a13, a14, a15, a16, a17, a18, a19, a20, a21, a22) fp y) : wpX_fetch post (ln, pc, st, fi, hd, en, fp, rt, a1, a2, a3, a4, a5, a6, a7, a8, a9, a10, a11, a12, a13, a14, a15, a16, a17, a18, a19, a20, a21, a22) := by
  refine nm_r hf ⟨hv, nm_r h8 (br_t (by decide) (br_t rfl ⟨2, br_f (by decide) (br_f he (hp _ (H _ ?_)))⟩))⟩
  rintro ⟨c1, c2, c3, c4, c5, c6, c7, c8, d1, d2, d3, d4, d5, d6, d7, d8, d9, d10, d11, d12, d13, d14, d15, d16, d17, d18, d19, d20, d21, d22⟩ hu
  exact nm_r (e' := 1) (by decide) (br_t (by decide) hu)
end
section
/-! part 3: executing -/
theorem tf_comp {post : Int32 → Prop} {ln pc st fi hd en fp rt : Int32} {a1 a2 a3 a4 a5 a6 a7 a8 a9 a10 a11 a12 a13 a14 a15 a16 a17 a18 a19 a20 a21 a22 : Nat → Int32} {x p q : Int32} (H : post (tf_val x p q)) : wpX_compute post (ln, pc, st, fi, hd, en, fp, rt, a1, a2, a3, a4, a5, a6, a7, a8, a9, a10, a11, a12, a13, a14, a15, a16, a17, a18, a19, a20, a21, a22) x p q := by
  unfold tf_val at H
  by_cases e1 : x = 1
  · rw [if_pos e1] at H
    exact br_t e1 H
  · rw [if_neg e1] at H
    by_cases e2 : x = 2
    · rw [if_pos e2] at H
      exact br_f e1 (br_t e2 H)
    · rw [if_neg e2] at H
      by_cases e3 : x = 3
      · rw [if_pos e3] at H
        by_cases e4 : q ≤ p
        · rw [if_pos e4] at H
          exact br_f e1 (br_f e2 (br_t e3 (br_t e4 H)))
        · rw [if_neg e4] at H
          exact br_f e1 (br_f e2 (br_t e3 (br_f e4 H)))
      · rw [if_neg e3] at H
        exact br_f e1 (br_f e2 (br_f e3 H))
/-- the one entry that is there waits for nothing: the announcement changes nothing -/
theorem tf_ann {post : St2 → Prop} {ln pc st fi fp rt : Int32} {a1 a2 a3 a4 a5 a6 a7 a8 a9 a10 a11 a12 a13 a14 a15 a16 a17 a18 a19 a20 a21 a22 : Nat → Int32} {e : Int32} (i : Nat) (hm : (e + 0) &&& 7 = e) (hv : vp_in e 8) (hi : e.toNatClampNeg = i) (hn : ¬ (-1 : Int32) = e) (h14 : a14 i = -1) (h16 : a16 i = -1) (H : post (ln, pc, st, fi, e, 1, fp, rt, a1, a2, a3, a4, a5, a6, a7, a8, a9, a10, a11, a12, a13, a14, a15, a16, a17, a18, a19, a20, a21, a22)) : wpX_announce post (ln, pc, st, fi, e, 1, fp, rt, a1, a2, a3, a4, a5, a6, a7, a8, a9, a10, a11, a12, a13, a14, a15, a16, a17, a18, a19, a20, a21, a22) e := by
  subst hi
  exact ⟨2, br_f (by decide) (nm_r hm ⟨hv, br_f (by rw [h14]; exact hn) ⟨hv, br_f (by rw [h16]; exact hn) (nm_r (e' := 1) (by decide) (br_t (by decide) H))⟩⟩)⟩
/-- the operation of entry 0 -/
theorem tf_exK {post : Int32 → St2 → Prop} {ln pc st fi fp rt : Int32} {a1 a2 a3 a4 a5 a6 a7 a8 a9 a10 a11 a12 a13 a14 a15 a16 a17 a18 a19 a20 a21 a22 : Nat → Int32} {x p q : Int32} (hx : tf_op x) (h11 : a11 0 = 0) (h12 : a12 0 = x) (h14 : a14 0 = -1) (h15 : a15 0 = p) (h16 : a16 0 = -1) (h17 : a17 0 = q)
    (H : post 1 (ln, pc, st, fi, 0, 1, fp, rt, a1, a2, a3, a4, a5, a6, a7, a8, a9, a10, a11, a12, a13, a14, a15, a16, a17, a18, a19, upd a20 0 1, upd a21 0 (tf_val x p q), a22)) : wpX_execute post (ln, pc, st, fi, 0, 1, fp, rt, a1, a2, a3, a4, a5, a6, a7, a8, a9, a10, a11, a12, a13, a14, a15, a16, a17, a18, a19, a20, a21, a22) 0 0 := by
  obtain ⟨o1, o2, o3, o4, o5, o6, o7, o8, o9, o10, o11, o12, o13, o14, o15, o16, o17, _⟩ := tf_o hx
  have v8 : vp_in 0 8 := vp_in_iff.mpr (by decide)
  have w : vp_in (a11 0) 24 := by
    rw [h11]
    exact vp_in_iff.mpr (by decide)
  subst h15 h17
  refine ⟨v8, nm_r h12 ⟨v8, w, nm_e ⟨v8, nm_e (br_f o15 (br_f o13 (br_f o16 (br_f o17 ⟨v8, ?_⟩))))⟩⟩⟩
  refine tf_comp ⟨v8, nm_r (e' := upd a21 0 (tf_val x (a15 0) (a17 0))) rfl ⟨v8, nm_r (e' := upd a20 0 1) rfl ?_⟩⟩
  exact tf_ann 0 (by decide) v8 (by decide) (by decide) h14 h16 H
/-- the store of entry 1 -/
theorem tf_exS {post : Int32 → St2 → Prop} {ln pc st fi fp rt : Int32} {a1 a2 a3 a4 a5 a6 a7 a8 a9 a10 a11 a12 a13 a14 a15 a16 a17 a18 a19 a20 a21 a22 : Nat → Int32} {n q v : Int32} (h11 : a11 1 = 1) (h12 : a12 1 = 6) (h4 : a4 1 = n) (h14 : a14 1 = -1) (h15 : a15 1 = q) (h16 : a16 1 = -1) (h17 : a17 1 = v)
    (H : post 1 (ln, pc, st, fi, 1, 1, fp, rt, a1, a2, a3, a4, a5, a6, a7, a8, a9, a10, a11, a12, a13, a14, a15, a16, a17, upd a18 1 1, upd a19 1 (((q + n) &&& 15).toInt8.toInt32), upd a20 1 1, upd a21 1 v, a22)) : wpX_execute post (ln, pc, st, fi, 1, 1, fp, rt, a1, a2, a3, a4, a5, a6, a7, a8, a9, a10, a11, a12, a13, a14, a15, a16, a17, a18, a19, a20, a21, a22) 1 0 := by
  have v8 : vp_in 1 8 := vp_in_iff.mpr (by decide)
  have w : vp_in (a11 1) 24 := by
    rw [h11]
    exact vp_in_iff.mpr (by decide)
  have h4' : a4 (a11 1).toNatClampNeg = n := by
    rw [h11]
    exact h4
  subst h17
  refine ⟨v8, nm_r h12 ⟨v8, w, nm_r h4' ⟨v8, nm_r h15 (br_f (by decide) (br_t rfl ?_))⟩⟩⟩
  refine ⟨v8, nm_r (e' := upd a19 1 (((q + n) &&& 15).toInt8.toInt32)) rfl ⟨v8, nm_r (e' := upd a18 1 1) rfl (br_f (by decide) (br_f (by decide) ⟨v8, ?_⟩))⟩⟩
  refine ⟨v8, nm_r (e' := upd a21 1 (a17 1)) rfl ⟨v8, nm_r (e' := upd a20 1 1) rfl ?_⟩⟩
  exact tf_ann 1 (by decide) v8 (by decide) (by decide) h14 h16 H
theorem tf_some0 {post : St2 → Prop} {ln pc st fi hd fp rt : Int32} {a1 a2 a3 a4 a5 a6 a7 a8 a9 a10 a11 a12 a13 a14 a15 a16 a17 a18 a19 a20 a21 a22 : Nat → Int32} (H : post (ln, pc, st, fi, hd, 0, fp, rt, a1, a2, a3, a4, a5, a6, a7, a8, a9, a10, a11, a12, a13, a14, a15, a16, a17, a18, a19, a20, a21, a22)) : wpX_executeSome post (ln, pc, st, fi, hd, 0, fp, rt, a1, a2, a3, a4, a5, a6, a7, a8, a9, a10, a11, a12, a13, a14, a15, a16, a17, a18, a19, a20, a21, a22) :=
  ⟨1, br_t (by decide) H⟩
theorem tf_someD {post : St2 → Prop} {ln pc st fi fp rt : Int32} {a1 a2 a3 a4 a5 a6 a7 a8 a9 a10 a11 a12 a13 a14 a15 a16 a17 a18 a19 a20 a21 a22 : Nat → Int32} (h20 : a20 2 = 1) (H : post (ln, pc, st, fi, 2, 1, fp, rt, a1, a2, a3, a4, a5, a6, a7, a8, a9, a10, a11, a12, a13, a14, a15, a16, a17, a18, a19, a20, a21, a22)) : wpX_executeSome post (ln, pc, st, fi, 2, 1, fp, rt, a1, a2, a3, a4, a5, a6, a7, a8, a9, a10, a11, a12, a13, a14, a15, a16, a17, a18, a19, a20, a21, a22) :=
  ⟨2, br_f (by decide) (br_f (by decide) (nm_r (e' := 2) (by decide) ⟨vp_in_iff.mpr (by decide), br_f (by rw [show a20 (Int32.toNatClampNeg 2) = 1 from h20]; decide) (nm_r (e' := 1) (by decide) (br_t (by decide) H))⟩))⟩
theorem tf_someK {post : St2 → Prop} {ln pc st fi fp rt : Int32} {a1 a2 a3 a4 a5 a6 a7 a8 a9 a10 a11 a12 a13 a14 a15 a16 a17 a18 a19 a20 a21 a22 : Nat → Int32} {x p q : Int32} (hx : tf_op x) (h11 : a11 0 = 0) (h12 : a12 0 = x) (h14 : a14 0 = -1) (h15 : a15 0 = p) (h16 : a16 0 = -1) (h17 : a17 0 = q) (h20 : a20 0 = 0)
    (H : post (ln, pc, st, fi, 0, 1, fp, rt, a1, a2, a3, a4, a5, a6, a7, a8, a9, a10, a11, a12, a13, a14, a15, a16, a17, a18, a19, upd a20 0 1, upd a21 0 (tf_val x p q), a22)) : wpX_executeSome post (ln, pc, st, fi, 0, 1, fp, rt, a1, a2, a3, a4, a5, a6, a7, a8, a9, a10, a11, a12, a13, a14, a15, a16, a17, a18, a19, a20, a21, a22) := by
  have v8 : vp_in 0 8 := vp_in_iff.mpr (by decide)
  refine ⟨2, br_f (by decide) (br_f (by decide) (nm_r (e' := 0) (by decide) ⟨v8, br_t h20 ⟨v8, br_f (by rw [show a14 (Int32.toNatClampNeg 0) = -1 from h14]; decide) ⟨v8, br_t (by rw [show a16 (Int32.toNatClampNeg 0) = -1 from h16]; decide) ?_⟩⟩⟩))⟩
  exact tf_exK hx h11 h12 h14 h15 h16 h17 (br_f (by decide) (nm_r (e' := 1) (by decide) (nm_r (e' := 1) (by decide) (br_t (by decide) H))))
theorem tf_someS {post : St2 → Prop} {ln pc st fi fp rt : Int32} {a1 a2 a3 a4 a5 a6 a7 a8 a9 a10 a11 a12 a13 a14 a15 a16 a17 a18 a19 a20 a21 a22 : Nat → Int32} {n q v : Int32} (h11 : a11 1 = 1) (h12 : a12 1 = 6) (h4 : a4 1 = n) (h14 : a14 1 = -1) (h15 : a15 1 = q) (h16 : a16 1 = -1) (h17 : a17 1 = v) (h20 : a20 1 = 0)
    (H : post (ln, pc, st, fi, 1, 1, fp, rt, a1, a2, a3, a4, a5, a6, a7, a8, a9, a10, a11, a12, a13, a14, a15, a16, a17, upd a18 1 1, upd a19 1 (((q + n) &&& 15).toInt8.toInt32), upd a20 1 1, upd a21 1 v, a22)) : wpX_executeSome post (ln, pc, st, fi, 1, 1, fp, rt, a1, a2, a3, a4, a5, a6, a7, a8, a9, a10, a11, a12, a13, a14, a15, a16, a17, a18, a19, a20, a21, a22) := by
  have v8 : vp_in 1 8 := vp_in_iff.mpr (by decide)
  refine ⟨2, br_f (by decide) (br_f (by decide) (nm_r (e' := 1) (by decide) ⟨v8, br_t h20 ⟨v8, br_f (by rw [show a14 (Int32.toNatClampNeg 1) = -1 from h14]; decide) ⟨v8, br_t (by rw [show a16 (Int32.toNatClampNeg 1) = -1 from h16]; decide) ?_⟩⟩⟩))⟩
  exact tf_exS h11 h12 h4 h14 h15 h16 h17 (br_f (by decide) (nm_r (e' := 1) (by decide) (nm_r (e' := 1) (by decide) (br_t (by decide) H))))
end
section
/-! part 4: retiring -/
theorem tf_place {post : Int32 → St2 → Prop} {ln pc st fi hd en fp rt : Int32} {a1 a2 a3 a4 a5 a6 a7 a8 a9 a10 a11 a12 a13 a14 a15 a16 a17 a18 a19 a20 a21 a22 : Nat → Int32} {e op x y : Int32} (i : Nat) (hv : vp_in e 8) (hi : e.toNatClampNeg = i) (h12 : a12 i = op) (h11 : a11 i = x) (h9 : ¬ op = 9) (h7 : ¬ op = 7) (h8 : ¬ op = 8) (hy : x + 1 = y) (H : post y (ln, pc, st, fi, hd, en, fp, rt, a1, a2, a3, a4, a5, a6, a7, a8, a9, a10, a11, a12, a13, a14, a15, a16, a17, a18, a19, a20, a21, a22)) : wpX_placeAfter post (ln, pc, st, fi, hd, en, fp, rt, a1, a2, a3, a4, a5, a6, a7, a8, a9, a10, a11, a12, a13, a14, a15, a16, a17, a18, a19, a20, a21, a22) e := by
  subst hi hy
  exact ⟨hv, nm_r h12 ⟨hv, nm_r h11 (br_f h9 (br_f h7 (br_f h8 H)))⟩⟩
theorem tf_fillT {post : St2 → Prop} {ln pc st fi hd en fp rt : Int32} {a1 a2 a3 a4 a5 a6 a7 a8 a9 a10 a11 a12 a13 a14 a15 a16 a17 a18 a19 a20 a21 a22 : Nat → Int32} {x f' x' : Int32} (i : Nat) (hv : vp_in fi 3) (hi : fi.toNatClampNeg = i) (hf : fi + 1 = f') (h3 : ¬ 3 ≤ f') (hx : x.toInt8.toInt32 = x') (H : post (ln, pc, st, f', hd, en, fp, rt, a1, a2, a3, a4, a5, a6, a7, a8, a9, upd a10 i x', a11, a12, a13, a14, a15, a16, a17, a18, a19, a20, a21, a22)) : wpX_fillTrace post (ln, pc, st, fi, hd, en, fp, rt, a1, a2, a3, a4, a5, a6, a7, a8, a9, a10, a11, a12, a13, a14, a15, a16, a17, a18, a19, a20, a21, a22) x := by
  subst hi hf hx
  exact ⟨hv, nm_e (nm_e (br_f h3 H))⟩
/-- the end of a retirement whose way on was predicted rightly -/
theorem tf_r148 {post : St2 → Prop} {ln pc st fi hd en fp rt : Int32} {a1 a2 a3 a4 a5 a6 a7 a8 a9 a10 a11 a12 a13 a14 a15 a16 a17 a18 a19 a20 a21 a22 : Nat → Int32} {e op x y f' x' : Int32} (i j : Nat) (hv : vp_in e 8) (hi : e.toNatClampNeg = i) (h12 : a12 i = op) (h11 : a11 i = x) (h9 : ¬ op = 9) (h7 : ¬ op = 7) (h8 : ¬ op = 8) (hy : x + 1 = y) (h13 : a13 i = y)
    (hfv : vp_in fi 3) (hj : fi.toNatClampNeg = j) (hf : fi + 1 = f') (h3 : ¬ 3 ≤ f') (hx : x.toInt8.toInt32 = x') (H : post (ln, y, st, f', hd, en, fp, rt, a1, a2, a3, a4, a5, a6, a7, a8, a9, upd a10 j x', a11, a12, a13, a14, a15, a16, a17, a18, a19, a20, a21, a22)) : wX_retire_148 post e x ln pc st fi hd en fp rt a1 a2 a3 a4 a5 a6 a7 a8 a9 a10 a11 a12 a13 a14 a15 a16 a17 a18 a19 a20 a21 a22 := by
  subst hi
  exact tf_place _ hv rfl h12 h11 h9 h7 h8 hy (tf_fillT j hfv hj hf h3 hx ⟨hv, br_t h13.symm H⟩)
theorem tf_retK {post : St2 → Prop} {ln st fp : Int32} {a1 a2 a3 a4 a5 a6 a7 a8 a9 a10 a11 a12 a13 a14 a15 a16 a17 a18 a19 a20 a21 a22 : Nat → Int32} {x : Int32} {v : Int32} (hx : tf_op x) (h2 : a2 0 = 2) (h11 : a11 0 = 0) (h12 : a12 0 = x) (h13 : a13 0 = 1) (h21 : a21 0 = v) (h22 : a22 2 = 0)
    (H : post (ln, 1, st, 1, 1, 1, fp, 1, a1, a2, a3, a4, upd a5 2 v, a6, a7, a8, a9, upd a10 0 0, a11, a12, a13, a14, a15, a16, a17, a18, a19, a20, a21, upd a22 2 (-1))) : wpX_retire post (ln, 0, st, 0, 0, 2, fp, 0, a1, a2, a3, a4, a5, a6, a7, a8, a9, a10, a11, a12, a13, a14, a15, a16, a17, a18, a19, a20, a21, a22) := by
  obtain ⟨o1, o2, o3, o4, o5, o6, o7, o8, o9, o10, o11, o12, o13, o14, o15, o16, o17, o18⟩ := tf_o hx
  have v8 : vp_in 0 8 := vp_in_iff.mpr (by decide)
  have v24 : vp_in 0 24 := vp_in_iff.mpr (by decide)
  have w : vp_in (a2 0) 8 := by
    rw [h2]
    exact vp_in_iff.mpr (by decide)
  have c : (a2 0).toNatClampNeg = 2 := by
    rw [h2]
    decide
  refine ⟨v8, nm_r h12 ⟨v8, nm_r h11 (br_f o18 (nm_r (e' := 1) (by decide) (nm_r (e' := 1) (by decide) (nm_r (e' := 1) (by decide) (br_f o11 (br_f o14 ⟨v24, v8, w, nm_r (e' := upd a5 2 v) ?_ ⟨v24, w, br_t ?_ ⟨v24, w, nm_r (e' := upd a22 2 (-1)) ?_ (br_f o13 ?_)⟩⟩⟩))))))⟩⟩
  · show upd a5 (a2 0).toNatClampNeg (a21 0) = upd a5 2 v
    rw [c, h21]
  · show a22 (a2 0).toNatClampNeg = 0
    rw [c, h22]
  · show upd a22 (a2 0).toNatClampNeg (-1) = upd a22 2 (-1)
    rw [c]
  · exact tf_r148 0 0 v8 (by decide) h12 h11 o8 o6 o7 (by decide) h13 (vp_in_iff.mpr (by decide)) (by decide) (by decide) (by decide) (by decide) H
theorem tf_retS {post : St2 → Prop} {ln st fp : Int32} {a1 a2 a3 a4 a5 a6 a7 a8 a9 a10 a11 a12 a13 a14 a15 a16 a17 a18 a19 a20 a21 a22 : Nat → Int32} {c v : Int32} (j : Nat) (h11 : a11 1 = 1) (h12 : a12 1 = 6) (h13 : a13 1 = 2) (h19 : a19 1 = c) (h21 : a21 1 = v) (hc : vp_in c 16) (hj : c.toNatClampNeg = j)
    (H : post (ln, 2, st, 2, 2, 1, fp, 2, a1, a2, a3, a4, a5, upd a6 j v, a7, a8, a9, upd a10 1 1, a11, a12, a13, a14, a15, a16, a17, a18, a19, a20, a21, a22)) : wpX_retire post (ln, 1, st, 1, 1, 2, fp, 1, a1, a2, a3, a4, a5, a6, a7, a8, a9, a10, a11, a12, a13, a14, a15, a16, a17, a18, a19, a20, a21, a22) := by
  have v8 : vp_in 1 8 := vp_in_iff.mpr (by decide)
  have v24 : vp_in 1 24 := vp_in_iff.mpr (by decide)
  have w : vp_in (a19 1) 16 := by
    rw [h19]
    exact hc
  refine ⟨v8, nm_r h12 ⟨v8, nm_r h11 (br_f (by decide) (nm_r (e' := 2) (by decide) (nm_r (e' := 2) (by decide) (nm_r (e' := 1) (by decide) (br_f (by decide) (br_t (by decide) (br_t rfl ⟨v8, v8, w, nm_r (e' := upd a6 j v) ?_ ?_⟩)))))))⟩⟩
  · show upd a6 (a19 1).toNatClampNeg (a21 1) = upd a6 j v
    rw [h19, h21, hj]
  · exact tf_r148 1 1 v8 (by decide) h12 h11 (by decide) (by decide) (by decide) (by decide) h13 (vp_in_iff.mpr (by decide)) (by decide) (by decide) (by decide) (by decide) H
theorem tf_retN {post : St2 → Prop} {ln pc st fi en fp rt : Int32} {a1 a2 a3 a4 a5 a6 a7 a8 a9 a10 a11 a12 a13 a14 a15 a16 a17 a18 a19 a20 a21 a22 : Nat → Int32} (h12 : a12 2 = 11) (H : post (ln, pc, 2, fi, 2, en, fp, rt, a1, a2, a3, a4, a5, a6, a7, a8, a9, a10, a11, a12, a13, a14, a15, a16, a17, a18, a19, a20, a21, a22)) : wpX_retire post (ln, pc, st, fi, 2, en, fp, rt, a1, a2, a3, a4, a5, a6, a7, a8, a9, a10, a11, a12, a13, a14, a15, a16, a17, a18, a19, a20, a21, a22) := by
  have v8 : vp_in 2 8 := vp_in_iff.mpr (by decide)
  exact ⟨v8, nm_r h12 ⟨v8, nm_e (br_t rfl H)⟩⟩
end
section
/-! part 5: the run's cycles -/
theorem tf_110A {post : Int32 → St2 → Prop} {J : Int32 → Int32 → Int32 → Int32 → Int32 → Int32 → Int32 → Int32 → Int32 → Int32 → (Nat → Int32) → (Nat → Int32) → (Nat → Int32) → (Nat → Int32) → (Nat → Int32) → (Nat → Int32) → (Nat → Int32) → (Nat → Int32) → (Nat → Int32) → (Nat → Int32) → (Nat → Int32) → (Nat → Int32) → (Nat → Int32) → (Nat → Int32) → (Nat → Int32) → (Nat → Int32) → (Nat → Int32) → (Nat → Int32) → (Nat → Int32) → (Nat → Int32) → (Nat → Int32) → (Nat → Int32) → Prop} {pc st fi rt : Int32} {a1 a2 a3 a4 a5 a6 a7 a8 a9 a10 a11 a12 a13 a14 a15 a16 a17 a18 a19 a20 a21 a22 : Nat → Int32} {x2 x3 x4 y4 x : Int32} (h4' : x4 + 1 = y4) (hx : tf_op x) (h1 : a1 0 = x) (h2 : a2 0 = 2) (h3 : a3 0 = 2) (h4 : a4 0 = 3) (h8 : a8 0 = 0) (h222 : a22 2 = -1) (h223 : a22 3 = -1)
    (H : J x3 y4 2 pc st fi 0 1 1 rt a1 a2 a3 a4 a5 a6 a7 a8 a9 a10 (upd a11 0 0) (upd a12 0 x) (upd a13 0 1) (upd a14 0 (-1)) (upd a15 0 (a5 2)) (upd a16 0 (-1)) (upd a17 0 (a5 3)) (upd a18 0 0) a19 (upd a20 0 0) a21 (upd a22 2 0)) :
    wX_run_110 post J x2 x3 x4 2 pc st fi 0 0 0 rt a1 a2 a3 a4 a5 a6 a7 a8 a9 a10 a11 a12 a13 a14 a15 a16 a17 a18 a19 a20 a21 a22 := by
  obtain ⟨o1, o2, o3, o4, o5, o6, o7, o8, o9, o10, o11, _⟩ := tf_o hx
  subst h4'
  unfold wX_run_110
  exact tf_some0 (tf_fetch (y := 1) (by decide) (vp_in_iff.mpr (by decide)) h8 (by decide) (fun P hP => tf_pred (by decide) (vp_in_iff.mpr (by decide)) h1 o11 o8 o6 o7 (by decide) hP) (fun Q hQ => tf_enterK hx h1 h2 h3 h4 h222 h223 (hQ _ (nm_e H))))
theorem tf_110B {post : Int32 → St2 → Prop} {J : Int32 → Int32 → Int32 → Int32 → Int32 → Int32 → Int32 → Int32 → Int32 → Int32 → (Nat → Int32) → (Nat → Int32) → (Nat → Int32) → (Nat → Int32) → (Nat → Int32) → (Nat → Int32) → (Nat → Int32) → (Nat → Int32) → (Nat → Int32) → (Nat → Int32) → (Nat → Int32) → (Nat → Int32) → (Nat → Int32) → (Nat → Int32) → (Nat → Int32) → (Nat → Int32) → (Nat → Int32) → (Nat → Int32) → (Nat → Int32) → (Nat → Int32) → (Nat → Int32) → (Nat → Int32) → Prop} {pc st fi rt : Int32} {a1 a2 a3 a4 a5 a6 a7 a8 a9 a10 a11 a12 a13 a14 a15 a16 a17 a18 a19 a20 a21 a22 : Nat → Int32} {x2 x3 x4 y4 x p q : Int32} (h4' : x4 + 1 = y4) (hx : tf_op x) (h1 : a1 1 = 6) (h2 : a2 1 = 2) (h3 : a3 1 = 3) (h8 : a8 1 = 0) (h11 : a11 0 = 0) (h12 : a12 0 = x) (h14 : a14 0 = -1) (h15 : a15 0 = p) (h16 : a16 0 = -1) (h17 : a17 0 = q) (h20 : a20 0 = 0) (h222 : a22 2 = 0) (h223 : a22 3 = -1)
    (H : J x3 y4 2 pc st fi 0 2 2 rt a1 a2 a3 a4 a5 a6 a7 a8 a9 a10 (upd a11 1 1) (upd a12 1 6) (upd a13 1 2) (upd a14 1 (-1)) (upd a15 1 (a5 3)) (upd a16 1 (-1)) (upd a17 1 (tf_val x p q)) (upd a18 1 0) a19 (upd (upd a20 0 1) 1 0) (upd a21 0 (tf_val x p q)) a22) :
    wX_run_110 post J x2 x3 x4 2 pc st fi 0 1 1 rt a1 a2 a3 a4 a5 a6 a7 a8 a9 a10 a11 a12 a13 a14 a15 a16 a17 a18 a19 a20 a21 a22 := by
  subst h4'
  unfold wX_run_110
  exact tf_someK hx h11 h12 h14 h15 h16 h17 h20 (tf_fetch (y := 2) (by decide) (vp_in_iff.mpr (by decide)) h8 (by decide) (fun P hP => tf_pred (op := 6) (by decide) (vp_in_iff.mpr (by decide)) h1 (by decide) (by decide) (by decide) (by decide) (by decide) hP) (fun Q hQ => tf_enterS h1 h2 h3 h222 h223 pk_us pk_us (hQ _ (nm_e H))))
theorem tf_110C {post : Int32 → St2 → Prop} {J : Int32 → Int32 → Int32 → Int32 → Int32 → Int32 → Int32 → Int32 → Int32 → Int32 → (Nat → Int32) → (Nat → Int32) → (Nat → Int32) → (Nat → Int32) → (Nat → Int32) → (Nat → Int32) → (Nat → Int32) → (Nat → Int32) → (Nat → Int32) → (Nat → Int32) → (Nat → Int32) → (Nat → Int32) → (Nat → Int32) → (Nat → Int32) → (Nat → Int32) → (Nat → Int32) → (Nat → Int32) → (Nat → Int32) → (Nat → Int32) → (Nat → Int32) → (Nat → Int32) → (Nat → Int32) → Prop} {pc st fi rt : Int32} {a1 a2 a3 a4 a5 a6 a7 a8 a9 a10 a11 a12 a13 a14 a15 a16 a17 a18 a19 a20 a21 a22 : Nat → Int32} {x2 x3 x4 y4 n q v : Int32} (h4' : x4 + 1 = y4) (h8 : a8 2 = 0) (h11 : a11 1 = 1) (h12 : a12 1 = 6) (h4 : a4 1 = n) (h14 : a14 1 = -1) (h15 : a15 1 = q) (h16 : a16 1 = -1) (h17 : a17 1 = v) (h20 : a20 1 = 0)
    (H : J x3 y4 2 pc st fi 1 2 2 rt a1 a2 a3 a4 a5 a6 a7 a8 a9 a10 (upd a11 2 2) (upd a12 2 11) (upd a13 2 2) (upd a14 2 (-1)) a15 (upd a16 2 (-1)) a17 (upd (upd a18 1 1) 2 0) (upd a19 1 (((q + n) &&& 15).toInt8.toInt32)) (upd (upd a20 1 1) 2 1) (upd a21 1 v) a22) :
    wX_run_110 post J x2 x3 x4 2 pc st fi 1 1 2 rt a1 a2 a3 a4 a5 a6 a7 a8 a9 a10 a11 a12 a13 a14 a15 a16 a17 a18 a19 a20 a21 a22 := by
  subst h4'
  unfold wX_run_110
  exact tf_someS h11 h12 h4 h14 h15 h16 h17 h20 (tf_fetch (y := 2) (by decide) (vp_in_iff.mpr (by decide)) h8 (by decide) (fun P hP => tf_predO (by decide) hP) (fun Q hQ => tf_enterN (e := 2) 2 (by decide) (by decide) (vp_in_iff.mpr (by decide)) (by decide) (by decide) (by decide) (hQ _ (nm_e H))))
theorem tf_110D {post : Int32 → St2 → Prop} {J : Int32 → Int32 → Int32 → Int32 → Int32 → Int32 → Int32 → Int32 → Int32 → Int32 → (Nat → Int32) → (Nat → Int32) → (Nat → Int32) → (Nat → Int32) → (Nat → Int32) → (Nat → Int32) → (Nat → Int32) → (Nat → Int32) → (Nat → Int32) → (Nat → Int32) → (Nat → Int32) → (Nat → Int32) → (Nat → Int32) → (Nat → Int32) → (Nat → Int32) → (Nat → Int32) → (Nat → Int32) → (Nat → Int32) → (Nat → Int32) → (Nat → Int32) → (Nat → Int32) → (Nat → Int32) → Prop} {pc st fi rt : Int32} {a1 a2 a3 a4 a5 a6 a7 a8 a9 a10 a11 a12 a13 a14 a15 a16 a17 a18 a19 a20 a21 a22 : Nat → Int32} {x2 x3 x4 y4 : Int32} (h4' : x4 + 1 = y4) (h8 : a8 2 = 0) (h20 : a20 2 = 1)
    (H : J x3 y4 2 pc st fi 2 2 2 rt a1 a2 a3 a4 a5 a6 a7 a8 a9 a10 (upd a11 3 2) (upd a12 3 11) (upd a13 3 2) (upd a14 3 (-1)) a15 (upd a16 3 (-1)) a17 (upd a18 3 0) a19 (upd a20 3 1) a21 a22) :
    wX_run_110 post J x2 x3 x4 2 pc st fi 2 1 2 rt a1 a2 a3 a4 a5 a6 a7 a8 a9 a10 a11 a12 a13 a14 a15 a16 a17 a18 a19 a20 a21 a22 := by
  subst h4'
  unfold wX_run_110
  exact tf_someD h20 (tf_fetch (y := 2) (by decide) (vp_in_iff.mpr (by decide)) h8 (by decide) (fun P hP => tf_predO (by decide) hP) (fun Q hQ => tf_enterN (e := 3) 3 (by decide) (by decide) (vp_in_iff.mpr (by decide)) (by decide) (by decide) (by decide) (hQ _ (nm_e H))))
/-- cycle 0 -/
theorem tf_c0 {post : Int32 → St2 → Prop} {m : Nat} {pc fi rt : Int32} {a1 a2 a3 a4 a5 a6 a7 a8 a9 a10 a11 a12 a13 a14 a15 a16 a17 a18 a19 a20 a21 a22 : Nat → Int32} {z x : Int32} (hz : ¬ z ≤ 0) (hx : tf_op x) (h1 : a1 0 = x) (h2 : a2 0 = 2) (h3 : a3 0 = 2) (h4 : a4 0 = 3) (h8 : a8 0 = 0) (h222 : a22 2 = -1) (h223 : a22 3 = -1)
    (H : wX_run_37 post z m 0 1 2 pc 0 fi 0 1 1 rt a1 a2 a3 a4 a5 a6 a7 a8 a9 a10 (upd a11 0 0) (upd a12 0 x) (upd a13 0 1) (upd a14 0 (-1)) (upd a15 0 (a5 2)) (upd a16 0 (-1)) (upd a17 0 (a5 3)) (upd a18 0 0) a19 (upd a20 0 0) a21 (upd a22 2 0)) :
    wX_run_37 post z (m + 1) 0 0 2 pc 0 fi 0 0 0 rt a1 a2 a3 a4 a5 a6 a7 a8 a9 a10 a11 a12 a13 a14 a15 a16 a17 a18 a19 a20 a21 a22 := by
  refine br_f (by decide) (br_f hz (br_t rfl ⟨3, ?_⟩))
  refine br_f (by decide) (br_f hz (br_t rfl (br_t (by decide) (nm_r (e' := 1) (by decide) ?_))))
  refine br_f (by decide) (br_f hz (br_t rfl (br_t (by decide) (nm_r (e' := 2) (by decide) ?_))))
  exact br_t (by decide) (tf_110A (by decide) hx h1 h2 h3 h4 h8 h222 h223 H)
/-- cycle 1 -/
theorem tf_c1 {post : Int32 → St2 → Prop} {m : Nat} {pc fi rt : Int32} {a1 a2 a3 a4 a5 a6 a7 a8 a9 a10 a11 a12 a13 a14 a15 a16 a17 a18 a19 a20 a21 a22 : Nat → Int32} {z x p q : Int32} (hz : ¬ z ≤ 0) (hx : tf_op x) (h1 : a1 1 = 6) (h2 : a2 1 = 2) (h3 : a3 1 = 3) (h8 : a8 1 = 0) (h11 : a11 0 = 0) (h12 : a12 0 = x) (h14 : a14 0 = -1) (h15 : a15 0 = p) (h16 : a16 0 = -1) (h17 : a17 0 = q) (h20 : a20 0 = 0) (h222 : a22 2 = 0) (h223 : a22 3 = -1)
    (H : wX_run_37 post z m 0 2 2 pc 0 fi 0 2 2 rt a1 a2 a3 a4 a5 a6 a7 a8 a9 a10 (upd a11 1 1) (upd a12 1 6) (upd a13 1 2) (upd a14 1 (-1)) (upd a15 1 (a5 3)) (upd a16 1 (-1)) (upd a17 1 (tf_val x p q)) (upd a18 1 0) a19 (upd (upd a20 0 1) 1 0) (upd a21 0 (tf_val x p q)) a22) :
    wX_run_37 post z (m + 1) 0 1 2 pc 0 fi 0 1 1 rt a1 a2 a3 a4 a5 a6 a7 a8 a9 a10 a11 a12 a13 a14 a15 a16 a17 a18 a19 a20 a21 a22 := by
  have v8 : vp_in 0 8 := vp_in_iff.mpr (by decide)
  refine br_f (by decide) (br_f hz (br_t rfl ⟨3, ?_⟩))
  refine br_f (by decide) (br_f hz (br_t rfl (br_f (by decide) ⟨v8, br_t h20 (nm_r (e' := 1) (by decide) ?_)⟩)))
  refine br_f (by decide) (br_f hz (br_t rfl (br_f (by decide) ⟨v8, br_t h20 (nm_r (e' := 2) (by decide) ?_)⟩)))
  exact br_t (by decide) (tf_110B (by decide) hx h1 h2 h3 h8 h11 h12 h14 h15 h16 h17 h20 h222 h223 H)
/-- cycle 2 -/
theorem tf_c2 {post : Int32 → St2 → Prop} {m : Nat} {a1 a2 a3 a4 a5 a6 a7 a8 a9 a10 a11 a12 a13 a14 a15 a16 a17 a18 a19 a20 a21 a22 : Nat → Int32} {z x n q v : Int32} (hz : ¬ z ≤ 0) (hx : tf_op x) (h2 : a2 0 = 2) (h8 : a8 2 = 0) (h110 : a11 0 = 0) (h120 : a12 0 = x) (h130 : a13 0 = 1) (h200 : a20 0 = 1) (h210 : a21 0 = v) (h222 : a22 2 = 0)
    (h11 : a11 1 = 1) (h12 : a12 1 = 6) (h4 : a4 1 = n) (h14 : a14 1 = -1) (h15 : a15 1 = q) (h16 : a16 1 = -1) (h17 : a17 1 = v) (h20 : a20 1 = 0)
    (H : wX_run_37 post z m 1 3 2 1 0 1 1 2 2 1 a1 a2 a3 a4 (upd a5 2 v) a6 a7 a8 a9 (upd a10 0 0) (upd a11 2 2) (upd a12 2 11) (upd a13 2 2) (upd a14 2 (-1)) a15 (upd a16 2 (-1)) a17 (upd (upd a18 1 1) 2 0) (upd a19 1 (((q + n) &&& 15).toInt8.toInt32)) (upd (upd a20 1 1) 2 1) (upd a21 1 v) (upd a22 2 (-1))) :
    wX_run_37 post z (m + 1) 0 2 2 0 0 0 0 2 2 0 a1 a2 a3 a4 a5 a6 a7 a8 a9 a10 a11 a12 a13 a14 a15 a16 a17 a18 a19 a20 a21 a22 := by
  have v8 : vp_in 0 8 := vp_in_iff.mpr (by decide)
  have v81 : vp_in 1 8 := vp_in_iff.mpr (by decide)
  have K : wX_run_110 post (wX_run_37 post z m) z 1 2 2 1 0 1 1 1 2 1 a1 a2 a3 a4 (upd a5 2 v) a6 a7 a8 a9 (upd a10 0 0) a11 a12 a13 a14 a15 a16 a17 a18 a19 a20 a21 (upd a22 2 (-1)) :=
    tf_110C (by decide) h8 h11 h12 h4 h14 h15 h16 h17 h20 H
  refine br_f (by decide) (br_f hz (br_t rfl ⟨3, ?_⟩))
  refine br_f (by decide) (br_f hz (br_t rfl (br_f (by decide) ⟨v8, br_f (by rw [show a20 (Int32.toNatClampNeg 0) = 1 from h200]; decide) ?_⟩)))
  refine tf_retK hx h2 h110 h120 h130 h210 h222 (nm_r (e' := 1) (by decide) (nm_r (e' := 1) (by decide) ?_))
  refine br_f (by decide) (br_c (fun _ => K) (fun _ => br_t rfl (br_f (by decide) ⟨v81, br_t h20 (nm_r (e' := 2) (by decide) ?_)⟩)))
  exact br_t (by decide) K
/-- cycle 3 -/
theorem tf_c3 {post : Int32 → St2 → Prop} {m : Nat} {a1 a2 a3 a4 a5 a6 a7 a8 a9 a10 a11 a12 a13 a14 a15 a16 a17 a18 a19 a20 a21 a22 : Nat → Int32} {z c v : Int32} (j : Nat) (hz : ¬ z ≤ 1) (h8 : a8 2 = 0) (h11 : a11 1 = 1) (h12 : a12 1 = 6) (h13 : a13 1 = 2) (h19 : a19 1 = c) (h20 : a20 1 = 1) (h21 : a21 1 = v) (hc : vp_in c 16) (hj : c.toNatClampNeg = j) (h122 : a12 2 = 11) (h202 : a20 2 = 1)
    (H2 : z ≤ 2 → wX_run_37 post z m 2 4 2 2 0 2 2 2 2 2 a1 a2 a3 a4 a5 (upd a6 j v) a7 a8 a9 (upd a10 1 1) (upd a11 3 2) (upd a12 3 11) (upd a13 3 2) (upd a14 3 (-1)) a15 (upd a16 3 (-1)) a17 (upd a18 3 0) a19 (upd a20 3 1) a21 a22)
    (H3 : ¬ z ≤ 2 → wX_run_37 post z m 3 4 2 2 2 2 2 2 2 2 a1 a2 a3 a4 a5 (upd a6 j v) a7 a8 a9 (upd a10 1 1) (upd a11 3 2) (upd a12 3 11) (upd a13 3 2) (upd a14 3 (-1)) a15 (upd a16 3 (-1)) a17 (upd a18 3 0) a19 (upd a20 3 1) a21 a22) :
    wX_run_37 post z (m + 1) 1 3 2 1 0 1 1 2 2 1 a1 a2 a3 a4 a5 a6 a7 a8 a9 a10 a11 a12 a13 a14 a15 a16 a17 a18 a19 a20 a21 a22 := by
  have v81 : vp_in 1 8 := vp_in_iff.mpr (by decide)
  have v82 : vp_in 2 8 := vp_in_iff.mpr (by decide)
  refine br_f (by decide) (br_f hz (br_t rfl ⟨3, ?_⟩))
  refine br_f (by decide) (br_f hz (br_t rfl (br_f (by decide) ⟨v81, br_f (by rw [show a20 (Int32.toNatClampNeg 1) = 1 from h20]; decide) ?_⟩)))
  refine tf_retS j h11 h12 h13 h19 h21 hc hj (nm_r (e' := 2) (by decide) (nm_r (e' := 1) (by decide) ?_))
  refine br_f (by decide) (br_c (fun g => tf_110D (by decide) h8 h202 (H2 g)) (fun g => br_t rfl (br_f (by decide) ⟨v82, br_f (by rw [show a20 (Int32.toNatClampNeg 2) = 1 from h202]; decide) ?_⟩)))
  refine tf_retN h122 (nm_r (e' := 3) (by decide) (nm_r (e' := 2) (by decide) ?_))
  exact br_t (by decide) (tf_110D (by decide) h8 h202 (H3 g))
end
section
/-! part 6: the run as a whole -/
theorem tf_m15 : ∀ j, j < 16 → (nI j).toInt8.toInt32 = nI j := by decide +kernel
/-- the run, bounded by z -/
theorem tf_r22 {post : Int32 → St2 → Prop} {en fp rt : Int32} {a1 a2 a3 a4 a5 a6 a7 a8 a9 a10 a11 a12 a13 a14 a15 a16 a17 a18 a19 a20 a21 a22 : Nat → Int32} {z x p q n : Int32} (j : Nat) (hx : tf_op x) (hj : j < 16) (hc : (q + n) &&& 15 = nI j) (h10 : a1 0 = x) (h11 : a1 1 = 6) (h20 : a2 0 = 2) (h21 : a2 1 = 2) (h30 : a3 0 = 2) (h31 : a3 1 = 3) (h40 : a4 0 = 3) (h41 : a4 1 = n) (h52 : a5 2 = p) (h53 : a5 3 = q) (h6 : a6 j = 0) (h8 : ∀ i, i < 8 → a8 i = 0)
    (H0 : z ≤ 0 → ∀ (ln fi hd en fp rt : Int32) (a1 a2 a3 a4 a5 a6 a7 a8 a9 a10 a11 a12 a13 a14 a15 a16 a17 a18 a19 a20 a21 a22 : Nat → Int32), a5 2 = p → a6 j = 0 → post 0 (ln, 0, 0, fi, hd, en, fp, rt, a1, a2, a3, a4, a5, a6, a7, a8, a9, a10, a11, a12, a13, a14, a15, a16, a17, a18, a19, a20, a21, a22))
    (H1 : ¬ z ≤ 0 → z ≤ 1 → ∀ (ln fi hd en fp rt : Int32) (a1 a2 a3 a4 a5 a6 a7 a8 a9 a10 a11 a12 a13 a14 a15 a16 a17 a18 a19 a20 a21 a22 : Nat → Int32), a5 2 = tf_val x p q → a6 j = 0 → post 1 (ln, 1, 0, fi, hd, en, fp, rt, a1, a2, a3, a4, a5, a6, a7, a8, a9, a10, a11, a12, a13, a14, a15, a16, a17, a18, a19, a20, a21, a22))
    (H2 : ¬ z ≤ 1 → z ≤ 2 → ∀ (ln fi hd en fp rt : Int32) (a1 a2 a3 a4 a5 a6 a7 a8 a9 a10 a11 a12 a13 a14 a15 a16 a17 a18 a19 a20 a21 a22 : Nat → Int32), a5 2 = tf_val x p q → a6 j = tf_val x p q → post 2 (ln, 2, 0, fi, hd, en, fp, rt, a1, a2, a3, a4, a5, a6, a7, a8, a9, a10, a11, a12, a13, a14, a15, a16, a17, a18, a19, a20, a21, a22))
    (H3 : ¬ z ≤ 2 → ∀ (ln fi hd en fp rt : Int32) (a1 a2 a3 a4 a5 a6 a7 a8 a9 a10 a11 a12 a13 a14 a15 a16 a17 a18 a19 a20 a21 a22 : Nat → Int32), a5 2 = tf_val x p q → a6 j = tf_val x p q → post 2 (ln, 2, 2, fi, hd, en, fp, rt, a1, a2, a3, a4, a5, a6, a7, a8, a9, a10, a11, a12, a13, a14, a15, a16, a17, a18, a19, a20, a21, a22)) :
    wX_run_22 post z 2 0 0 0 0 en fp rt a1 a2 a3 a4 a5 a6 a7 a8 a9 a10 a11 a12 a13 a14 a15 a16 a17 a18 a19 a20 a21 a22 := by
  have e15 : ((q + n) &&& 15).toInt8.toInt32 = nI j := by
    rw [hc]
    exact tf_m15 j hj
  unfold wX_run_22
  refine tf_squash (fun b hb => ⟨5, ?_⟩)
  by_cases z0 : z ≤ 0
  · refine br_f (by decide) (br_t z0 (H0 z0 _ _ _ _ _ _ _ _ _ _ _ _ _ _ _ _ _ _ _ _ _ _ _ _ _ _ _ _ ?_ ?_))
    · exact h52
    · exact h6
  refine tf_c0 z0 hx h10 h20 h30 h40 (h8 0 (by decide)) (hb 2 (by decide)) (hb 3 (by decide)) ?_
  refine tf_c1 (p := p) (q := q) z0 hx h11 h21 h31 (h8 1 (by decide)) pk_us pk_us pk_us (pk_us.trans h52) pk_us (pk_us.trans h53) pk_us pk_us ((pk_un (by decide)).trans (hb 3 (by decide))) ?_
  refine tf_c2 (n := n) (q := q) z0 hx h20 (h8 2 (by decide)) ((pk_un (by decide)).trans pk_us) ((pk_un (by decide)).trans pk_us) ((pk_un (by decide)).trans pk_us) ((pk_un (by decide)).trans pk_us) pk_us pk_us pk_us pk_us h41 pk_us (pk_us.trans h53) pk_us pk_us pk_us ?_
  by_cases z1 : z ≤ 1
  · refine br_f (by decide) (br_t z1 (H1 z0 z1 _ _ _ _ _ _ _ _ _ _ _ _ _ _ _ _ _ _ _ _ _ _ _ _ _ _ _ _ ?_ ?_))
    · exact pk_us
    · exact h6
  refine tf_c3 (c := nI j) (v := tf_val x p q) j z1 (h8 2 (by decide)) ((pk_un (by decide)).trans pk_us) ((pk_un (by decide)).trans pk_us) ((pk_un (by decide)).trans pk_us) (pk_us.trans e15) ((pk_un (by decide)).trans pk_us) pk_us (vp_in_nI hj (by decide)) (nI_clamp (by omega)) pk_us pk_us ?_ ?_
  · intro z2
    refine br_f (by decide) (br_t z2 (H2 z1 z2 _ _ _ _ _ _ _ _ _ _ _ _ _ _ _ _ _ _ _ _ _ _ _ _ _ _ _ _ ?_ ?_))
    · exact pk_us
    · exact pk_us
  · intro z2
    refine br_f (by decide) (br_c (fun _ => H3 z2 _ _ _ _ _ _ _ _ _ _ _ _ _ _ _ _ _ _ _ _ _ _ _ _ _ _ _ _ ?_ ?_) (fun _ => br_f (by decide) (H3 z2 _ _ _ _ _ _ _ _ _ _ _ _ _ _ _ _ _ _ _ _ _ _ _ _ _ _ _ _ ?_ ?_)))
    · exact pk_us
    · exact pk_us
    · exact pk_us
    · exact pk_us
end
section
/-! part 7: the law -/
theorem tf_int {s k : Int32} (h : s.toInt = k.toInt) : s = k := Int32.toInt_inj.mp h
theorem tf_neg {s : Int32} (h : ¬ 0 ≤ s) : s ≤ 0 := by
  rw [Int32.le_iff_toInt_le] at h ⊢
  omega
theorem tf_150 {s : Int32} (h : ¬ s ≤ 150) : ¬ s ≤ 2 := fun g => h (Int32.le_trans g (by decide))
theorem tf_d0 {s : Int32} (h : 0 ≤ s) (g : s ≤ 0) : s = 0 := by
  rw [Int32.le_iff_toInt_le] at h g
  exact tf_int (by omega)
theorem tf_d1 {s : Int32} (h : ¬ s ≤ 0) (g : s ≤ 1) : s = 1 := by
  rw [Int32.le_iff_toInt_le] at h g
  have e0 : (0 : Int32).toInt = 0 := by decide
  have e1 : (1 : Int32).toInt = 1 := by decide
  exact tf_int (by omega)
theorem tf_d2 {s : Int32} (h : ¬ s ≤ 1) (g : s ≤ 2) : s = 2 := by
  rw [Int32.le_iff_toInt_le] at h g
  have e1 : (1 : Int32).toInt = 1 := by decide
  have e2 : (2 : Int32).toInt = 2 := by decide
  exact tf_int (by omega)
theorem tf_run {post : Int32 → St2 → Prop} {en fp rt : Int32} {a1 a2 a3 a4 a5 a6 a7 a8 a9 a10 a11 a12 a13 a14 a15 a16 a17 a18 a19 a20 a21 a22 : Nat → Int32} {z x p q n : Int32} (j : Nat) (hx : tf_op x) (hj : j < 16) (hc : (q + n) &&& 15 = nI j) (h10 : a1 0 = x) (h11 : a1 1 = 6) (h20 : a2 0 = 2) (h21 : a2 1 = 2) (h30 : a3 0 = 2) (h31 : a3 1 = 3) (h40 : a4 0 = 3) (h41 : a4 1 = n) (h52 : a5 2 = p) (h53 : a5 3 = q) (h6 : a6 j = 0) (h8 : ∀ i, i < 8 → a8 i = 0)
    (H0 : z ≤ 0 → ∀ (ln fi hd en fp rt : Int32) (a1 a2 a3 a4 a5 a6 a7 a8 a9 a10 a11 a12 a13 a14 a15 a16 a17 a18 a19 a20 a21 a22 : Nat → Int32), a5 2 = p → a6 j = 0 → post 0 (ln, 0, 0, fi, hd, en, fp, rt, a1, a2, a3, a4, a5, a6, a7, a8, a9, a10, a11, a12, a13, a14, a15, a16, a17, a18, a19, a20, a21, a22))
    (H1 : ¬ z ≤ 0 → z ≤ 1 → ∀ (ln fi hd en fp rt : Int32) (a1 a2 a3 a4 a5 a6 a7 a8 a9 a10 a11 a12 a13 a14 a15 a16 a17 a18 a19 a20 a21 a22 : Nat → Int32), a5 2 = tf_val x p q → a6 j = 0 → post 1 (ln, 1, 0, fi, hd, en, fp, rt, a1, a2, a3, a4, a5, a6, a7, a8, a9, a10, a11, a12, a13, a14, a15, a16, a17, a18, a19, a20, a21, a22))
    (H2 : ¬ z ≤ 1 → z ≤ 2 → ∀ (ln fi hd en fp rt : Int32) (a1 a2 a3 a4 a5 a6 a7 a8 a9 a10 a11 a12 a13 a14 a15 a16 a17 a18 a19 a20 a21 a22 : Nat → Int32), a5 2 = tf_val x p q → a6 j = tf_val x p q → post 2 (ln, 2, 0, fi, hd, en, fp, rt, a1, a2, a3, a4, a5, a6, a7, a8, a9, a10, a11, a12, a13, a14, a15, a16, a17, a18, a19, a20, a21, a22))
    (H3 : ¬ z ≤ 2 → ∀ (ln fi hd en fp rt : Int32) (a1 a2 a3 a4 a5 a6 a7 a8 a9 a10 a11 a12 a13 a14 a15 a16 a17 a18 a19 a20 a21 a22 : Nat → Int32), a5 2 = tf_val x p q → a6 j = tf_val x p q → post 2 (ln, 2, 2, fi, hd, en, fp, rt, a1, a2, a3, a4, a5, a6, a7, a8, a9, a10, a11, a12, a13, a14, a15, a16, a17, a18, a19, a20, a21, a22)) :
    wpX_run post (2, 0, 0, 0, 0, en, fp, rt, a1, a2, a3, a4, a5, a6, a7, a8, a9, a10, a11, a12, a13, a14, a15, a16, a17, a18, a19, a20, a21, a22) z := by
  refine br_c (fun h => br_c (fun g => ?_) (fun g => ?_)) (fun h => ?_)
  · exact tf_r22 (n := n) j hx hj hc h10 h11 h20 h21 h30 h31 h40 h41 h52 h53 h6 h8 H0 H1 H2 H3
  · exact tf_r22 (n := n) j hx hj hc h10 h11 h20 h21 h30 h31 h40 h41 h52 h53 h6 h8 (fun t => absurd t (by decide)) (fun _ t => absurd t (by decide)) (fun _ t => absurd t (by decide)) (fun _ => H3 (tf_150 g))
  · exact tf_r22 (n := n) j hx hj hc h10 h11 h20 h21 h30 h31 h40 h41 h52 h53 h6 h8 (fun _ => H0 (tf_neg h)) (fun t => absurd (by decide) t) (fun t => absurd (by decide) t) (fun t => absurd (by decide) t)
theorem tf_reg2 {post : Int32 → Prop} {ln pc st fi hd en fp rt : Int32} {a1 a2 a3 a4 a5 a6 a7 a8 a9 a10 a11 a12 a13 a14 a15 a16 a17 a18 a19 a20 a21 a22 : Nat → Int32} (H : post (a5 2)) : wpX_register post (ln, pc, st, fi, hd, en, fp, rt, a1, a2, a3, a4, a5, a6, a7, a8, a9, a10, a11, a12, a13, a14, a15, a16, a17, a18, a19, a20, a21, a22) 2 := by
  unfold wpX_register
  dsimp only
  exact tf_isReg (by decide) (by decide) (br_f (by decide) ⟨vp_in_iff.mpr (by decide), H⟩)
theorem tf_mem {post : Int32 → Prop} {ln pc st fi hd en fp rt : Int32} {a1 a2 a3 a4 a5 a6 a7 a8 a9 a10 a11 a12 a13 a14 a15 a16 a17 a18 a19 a20 a21 a22 : Nat → Int32} {c : Int32} (j : Nat) (hc : c = nI j) (hj : j < 16) (H : post (a6 j)) : wpX_memory post (ln, pc, st, fi, hd, en, fp, rt, a1, a2, a3, a4, a5, a6, a7, a8, a9, a10, a11, a12, a13, a14, a15, a16, a17, a18, a19, a20, a21, a22) c := by
  subst hc
  refine br_f (nI_pos (by omega)) (br_t (nI_le (b := 15) (by omega) (by decide)) ⟨vp_in_nI hj (by decide), ?_⟩)
  rw [nI_clamp (by omega)]
  exact H
theorem tf_199 {post : Int32 → St0 → Prop} (hp : post 1 ()) {mc ms kc ks : Nat} {ln st fi hd en fp rt : Int32} {a1 a2 a3 a4 a5 a6 a7 a8 a9 a10 a11 a12 a13 a14 a15 a16 a17 a18 a19 a20 a21 a22 : Nat → Int32} {s d w w' : Int32} (hw : w' = w) (hs : s ≤ 2 → st = 0) (hs' : ¬ s ≤ 2 → st = 2) : wL_lawOf_199 post mc ms s d w w' kc ks ln d st fi hd en fp rt a1 a2 a3 a4 a5 a6 a7 a8 a9 a10 a11 a12 a13 a14 a15 a16 a17 a18 a19 a20 a21 a22 :=
  br_t hw (br_t rfl (br_c (fun h => br_t (hs h) hp) (fun h => br_t (hs' h) hp)))
theorem tf_171 {post : Int32 → St0 → Prop} (hp : post 1 ()) {mc ms kc ks : Nat} {ln st fi hd en fp rt : Int32} {a1 a2 a3 a4 a5 a6 a7 a8 a9 a10 a11 a12 a13 a14 a15 a16 a17 a18 a19 a20 a21 a22 : Nat → Int32} {q n s x6 d w w' : Int32} (j : Nat) (hj : j < 16) (hc : (q + n) &&& 15 = nI j) (hw : w' = w) (h6 : d ≤ 1 → a6 j = 0) (h6' : ¬ d ≤ 1 → a6 j = x6) (hs : s ≤ 2 → st = 0) (hs' : ¬ s ≤ 2 → st = 2) : wL_lawOf_171 post mc ms q n s x6 d w w' kc ks ln d st fi hd en fp rt a1 a2 a3 a4 a5 a6 a7 a8 a9 a10 a11 a12 a13 a14 a15 a16 a17 a18 a19 a20 a21 a22 :=
  br_t hw (tf_mem j hc hj (br_c (fun h => tf_199 hp (h6 h) hs hs') (fun h => tf_199 hp (h6' h) hs hs')))
theorem tf_73 {post : Int32 → St0 → Prop} (hp : post 1 ()) {p q n s x v d : Int32} (hx : tf_op x) (hv : v = tf_val x p q) (d0 : s ≤ 0 → d = 0) (d1 : ¬ s ≤ 0 → s ≤ 1 → d = 1) (d2 : ¬ s ≤ 1 → d = 2) : wL_lawOf_73 post 23 305 p q n s x v d 0 0 := by
  obtain ⟨j, hj, hc⟩ := pk_andE (q + n) (m := 15) 4 (by decide)
  have j16 : j < 16 := hj
  subst hv
  have tz0 : ∀ s : Int32, s ≤ 0 → s ≤ 2 := fun s h => Int32.le_trans h (by decide)
  have tz1 : ∀ s : Int32, s ≤ 1 → s ≤ 2 := fun s h => Int32.le_trans h (by decide)
  refine ⟨by decide, by decide, 22, 275, by decide, by decide, ?_⟩
  refine ⟨by decide, by decide, by decide, by decide, by decide, by decide, by decide, by decide, by decide, by decide, by decide, by decide, by decide, by decide, by decide, by decide, by decide, by decide, by decide, by decide, by decide, by decide, by decide, by decide, by decide, by decide, by decide, by decide, by decide, by decide, by decide, by decide, by decide, by decide, by decide, by decide, by decide, by decide, by decide, by decide, by decide, by decide, by decide, by decide, ?_⟩
  refine tf_forget (fun b8 h8 => tf_squash (fun b22 h22 => ?_))
  refine tf_setReg 2 (by decide) (by decide) (vp_in_iff.mpr (by decide)) (by decide) (br_f (by decide) ?_)
  refine tf_setReg 3 (by decide) (by decide) (vp_in_iff.mpr (by decide)) (by decide) (br_f (by decide) ?_)
  refine tf_emitK hx (fun b9 h9 => br_t rfl ?_)
  refine tf_emitS (fun c8 k8 => br_t rfl ?_)
  refine tf_run (x := x) (p := p) (q := q) (n := n) j hx j16 hc ((pk_un (by decide)).trans pk_us) pk_us ((pk_un (by decide)).trans pk_us) pk_us ((pk_un (by decide)).trans pk_us) pk_us ((pk_un (by decide)).trans pk_us) pk_us ((pk_un (by decide)).trans pk_us) pk_us rfl k8 ?_ ?_ ?_ ?_
  · intro h ln fi hd en fp rt a1 a2 a3 a4 a5 a6 a7 a8 a9 a10 a11 a12 a13 a14 a15 a16 a17 a18 a19 a20 a21 a22 e5 e6
    have ed := d0 h
    subst ed
    exact br_t rfl (tf_reg2 (br_t (by decide) (tf_171 hp j j16 hc e5 (fun _ => e6) (fun t => absurd (by decide) t) (fun _ => rfl) (fun t => absurd (tz0 s h) t))))
  · intro h0 h ln fi hd en fp rt a1 a2 a3 a4 a5 a6 a7 a8 a9 a10 a11 a12 a13 a14 a15 a16 a17 a18 a19 a20 a21 a22 e5 e6
    have ed := d1 h0 h
    subst ed
    exact br_t rfl (tf_reg2 (br_f (by decide) (tf_171 hp j j16 hc e5 (fun _ => e6) (fun t => absurd (by decide) t) (fun _ => rfl) (fun t => absurd (tz1 s h) t))))
  · intro h0 h ln fi hd en fp rt a1 a2 a3 a4 a5 a6 a7 a8 a9 a10 a11 a12 a13 a14 a15 a16 a17 a18 a19 a20 a21 a22 e5 e6
    have ed := d2 h0
    subst ed
    exact br_t rfl (tf_reg2 (br_f (by decide) (tf_171 hp j j16 hc e5 (fun t => absurd t (by decide)) (fun _ => e6) (fun _ => rfl) (fun t => absurd h t))))
  · intro h ln fi hd en fp rt a1 a2 a3 a4 a5 a6 a7 a8 a9 a10 a11 a12 a13 a14 a15 a16 a17 a18 a19 a20 a21 a22 e5 e6
    have ed := d2 (fun t => h (tz1 s t))
    subst ed
    exact br_t rfl (tf_reg2 (br_f (by decide) (tf_171 hp j j16 hc e5 (fun t => absurd t (by decide)) (fun _ => e6) (fun t => absurd t h) (fun _ => rfl))))
theorem tf_50 {post : Int32 → St0 → Prop} (hp : post 1 ()) {p q n s x v : Int32} (hx : tf_op x) (hv : v = tf_val x p q) : wL_lawOf_50 post 23 305 p q n s x v 0 0 :=
  br_c (fun h => br_c (fun g => tf_73 hp hx hv (tf_d0 h) tf_d1 (fun t => tf_d2 t g)) (fun g => tf_73 hp hx hv (fun t => absurd (Int32.le_trans t (by decide)) g) (fun _ t => absurd (Int32.le_trans t (by decide)) g) (fun _ => rfl)))
    (fun h => tf_73 hp hx hv (fun _ => rfl) (fun t => absurd (tf_neg h) t) (fun t => absurd (Int32.le_trans (tf_neg h) (by decide)) t))
theorem tf_kind (y : Int32) : tf_op (y &&& 3) := by
  obtain ⟨j, hj, e⟩ := pk_andE y (m := 3) 2 (by decide)
  rw [e]
  have h : j = 0 ∨ j = 1 ∨ j = 2 ∨ j = 3 := by omega
  rcases h with rfl | rfl | rfl | rfl
  · exact Or.inl rfl
  · exact Or.inr (Or.inl rfl)
  · exact Or.inr (Or.inr (Or.inl rfl))
  · exact Or.inr (Or.inr (Or.inr rfl))
theorem tf_lawOf {post : Int32 → St0 → Prop} (hp : post 1 ()) (y p q n s : Int32) : wpL_lawOf post 23 305 () y p q n s := by
  have hx := tf_kind y
  refine nm_e ?_
  generalize y &&& 3 = x at hx
  refine br_c (fun e0 => tf_50 hp hx ?_) (fun e0 => br_c (fun e1 => tf_50 hp hx ?_) (fun e1 => br_c (fun e2 => tf_50 hp hx ?_) (fun e2 => ?_)))
  · rw [e0]
    rfl
  · rw [e1]
    rfl
  · rw [e2]
    rfl
  · have e3 : x = 3 := by
      rcases hx with h | h | h | h
      · exact absurd h e0
      · exact absurd h e1
      · exact absurd h e2
      · exact h
    refine br_c (fun g => tf_50 hp hx ?_) (fun g => tf_50 hp hx ?_)
    · unfold tf_val
      rw [if_neg e1, if_neg e2, if_pos e3, if_pos g]
    · unfold tf_val
      rw [if_neg e1, if_neg e2, if_pos e3, if_neg g]
theorem tf_cell {post : Int32 → Prop} {L : Nat} {xs : Nat → Int32} {i : Int32} (k : Nat) (hk : k < 8) (hL : L ≤ 5) (hi : i = nI k) (H : ∀ v, post v) : wpL_cellAt post L xs () i :=
  pk_le L k (fun _ => H _) (fun z => ⟨pk_in k L z hi, H _⟩) (hy := hi)
theorem i_vc (xs : Nat → Int32) (L : Nat) (hL : L ≤ 5) : wpL_law (fun r => r = 1) L xs := by
  unfold wpL_law
  refine tf_cell 0 (by decide) hL rfl (fun r1 => ?_)
  refine tf_cell 1 (by decide) hL rfl (fun r2 => ?_)
  refine tf_cell 2 (by decide) hL rfl (fun r3 => ?_)
  refine tf_cell 3 (by decide) hL rfl (fun r4 => ?_)
  refine tf_cell 4 (by decide) hL rfl (fun r5 => ?_)
  exact ⟨23, 305, by decide, by decide, tf_lawOf rfl r1 r2 r3 r4 r5⟩
end
