section
section
variable {l oc d h fv ov : Int32} {a1 a2 a3 a4 a5 a6 a7 a8 a9 a10 a11 a12 a13 a14 : Nat → Int32}
/-! small facts, and the methods that only compute -/
theorem tv_in {x : Int32} {n : Nat} (h : 0 ≤ x.toInt ∧ x.toInt < n) : vp_in x n := vp_in_iff.mpr h
theorem tv_sel {c : Prop} [Decidable c] {A B : Prop} {a b : Int32} {P : Int32 → Prop} (hp : P (if c then a else b)) (hA : P a → A) (hB : P b → B) : (c → A) ∧ (¬ c → B) :=
  ⟨fun h => hA (by rw [if_pos h] at hp; exact hp), fun h => hB (by rw [if_neg h] at hp; exact hp)⟩
def tv_not (l x : Int32) : Int32 := if l = 2 then (if x = 0 then 2 else 0) else 2 - x
def tv_ap (l k x y : Int32) : Int32 := if k = 1 then (if y ≤ x then y else x) else if k = 2 then (if x ≤ y then y else x) else if l = 0 then (if 2 ≤ (2 - x) + y then 2 else (2 - x) + y) else if l = 1 then (if (2 - x) ≤ y then y else 2 - x) else if y < x then y else 2
def tv_st (f z s y : Int32) : Int32 := if ((f >>> (z &&& 31)) &&& 1) = 0 then s else s ||| ((1 : Int32) <<< (y &&& 31))
def tv_part (l k x f : Int32) : Int32 := tv_st f (tv_ap l k x 2) (tv_st f (tv_ap l k x 1) (tv_st f (tv_ap l k x 0) 0 0) 1) 2
def tv_bef (l f : Int32) : Int32 := tv_st f (tv_not l 2) (tv_st f (tv_not l 1) (tv_st f (tv_not l 0) 0 0) 1) 2
theorem tv_wnot {post : Int32 → Prop} {x : Int32} (hp : post (tv_not l x)) : wpX_not post (l, oc, d, h, fv, ov, a1, a2, a3, a4, a5, a6, a7, a8, a9, a10, a11, a12, a13, a14) x :=
  tv_sel (P := post) hp (fun q => tv_sel (P := post) q id id) id
theorem tv_wap {post : Int32 → Prop} {k x y : Int32} (hp : post (tv_ap l k x y)) : wpX_apply post (l, oc, d, h, fv, ov, a1, a2, a3, a4, a5, a6, a7, a8, a9, a10, a11, a12, a13, a14) k x y :=
  tv_sel (P := post) hp (fun q => tv_sel (P := post) q id id) (fun q => tv_sel (P := post) q (fun q => tv_sel (P := post) q id id) (fun q => tv_sel (P := post) q (fun q => tv_sel (P := post) q id id) (fun q => tv_sel (P := post) q (fun q => tv_sel (P := post) q id id) (fun q => tv_sel (P := post) q id id))))
theorem tv_p6 {post : Int32 → Prop} {k x f s y y' : Int32} {n : Nat} (hy : ¬ 3 ≤ y) (e : y + 1 = y') (hw : wX_partners_6 post k x f l oc d h fv ov a1 a2 a3 a4 a5 a6 a7 a8 a9 a10 a11 a12 a13 a14 n (tv_st f (tv_ap l k x y) s y) y') : wX_partners_6 post k x f l oc d h fv ov a1 a2 a3 a4 a5 a6 a7 a8 a9 a10 a11 a12 a13 a14 (n + 1) s y := by
  refine br_f hy (tv_wap ?_)
  exact tv_sel (P := fun s' => wX_partners_6 post k x f l oc d h fv ov a1 a2 a3 a4 a5 a6 a7 a8 a9 a10 a11 a12 a13 a14 n s' y') hw (fun q => nm_r e q) (fun q => nm_e (nm_r e q))
theorem tv_wpart {post : Int32 → Prop} {k x f : Int32} (hp : post (tv_part l k x f)) : wpX_partners post (l, oc, d, h, fv, ov, a1, a2, a3, a4, a5, a6, a7, a8, a9, a10, a11, a12, a13, a14) k x f :=
  ⟨4, tv_p6 (y' := 1) (by decide) (by decide) (tv_p6 (y' := 2) (by decide) (by decide) (tv_p6 (y' := 3) (by decide) (by decide) (br_t (by decide) hp)))⟩
theorem tv_b4 {post : Int32 → Prop} {f s y y' : Int32} {n : Nat} (hy : ¬ 3 ≤ y) (e : y + 1 = y') (hw : wX_beforeNot_4 post f l oc d h fv ov a1 a2 a3 a4 a5 a6 a7 a8 a9 a10 a11 a12 a13 a14 n (tv_st f (tv_not l y) s y) y') : wX_beforeNot_4 post f l oc d h fv ov a1 a2 a3 a4 a5 a6 a7 a8 a9 a10 a11 a12 a13 a14 (n + 1) s y := by
  refine br_f hy (tv_wnot ?_)
  exact tv_sel (P := fun s' => wX_beforeNot_4 post f l oc d h fv ov a1 a2 a3 a4 a5 a6 a7 a8 a9 a10 a11 a12 a13 a14 n s' y') hw (fun q => nm_r e q) (fun q => nm_e (nm_r e q))
theorem tv_wbef {post : Int32 → Prop} {f g : Int32} (e : f = g) (hp : post (tv_bef l g)) : wpX_beforeNot post (l, oc, d, h, fv, ov, a1, a2, a3, a4, a5, a6, a7, a8, a9, a10, a11, a12, a13, a14) f := by
  subst e
  exact ⟨4, tv_b4 (y' := 1) (by decide) (by decide) (tv_b4 (y' := 2) (by decide) (by decide) (tv_b4 (y' := 3) (by decide) (by decide) (br_t (by decide) hp)))⟩
theorem tv_wdem {post : St2 → Prop} {p v d' : Int32} {i : Nat} (h1 : ¬ 32 ≤ d) (h2 : vp_in d 32) (hi : d.toNatClampNeg = i) (hd : d + 1 = d') (hp : post (l, oc, d', h, fv, ov, a1, a2, a3, a4, a5, upd a6 i p.toInt8.toInt32, upd a7 i v.toInt8.toInt32, a8, a9, a10, a11, a12, a13, a14)) : wpX_demand post (l, oc, d, h, fv, ov, a1, a2, a3, a4, a5, a6, a7, a8, a9, a10, a11, a12, a13, a14) p v := by
  subst hi
  subst hd
  exact br_f h1 ⟨h2, nm_e ⟨h2, nm_e (nm_e hp)⟩⟩
end
end
section
section
variable {l oc d h fv ov : Int32} {a1 a2 a3 a4 a5 a6 a7 a8 a9 a10 a11 a12 a13 a14 : Nat → Int32}
/-! read, a lemma a token; complete; feed -/
theorem tv_us {f : Nat → Int32} {k j : Nat} {x y : Int32} (hk : k = j) (hx : x = y) : upd f k x j = y := by
  subst hk
  subst hx
  exact pk_us
theorem tv_un {f : Nat → Int32} {k j : Nat} {x y : Int32} (hk : j ≠ k) (hx : f j = y) : upd f k x j = y := by
  subst hx
  exact pk_un hk
theorem tv_want2 {P : Int32 → Prop} {t k : Int32} (e : t = k) (k0 : ¬ k = 0) (k4 : ¬ 4 ≤ k) (hp : P 2) : wpX_wants P () t := by
  subst e
  exact br_f k0 (br_f k4 hp)
theorem tv_want1 {P : Int32 → Prop} {t : Int32} (e : t = 0) (hp : P 1) : wpX_wants P () t := br_t e hp
theorem tv_want0 {P : Int32 → Prop} {t c : Int32} (e : t = c) (k0 : ¬ c = 0) (k4 : 4 ≤ c) (hp : P 0) : wpX_wants P () t := by
  subst e
  exact br_f k0 (br_t k4 hp)
theorem tv_a32z {post : St2 → Prop} {x oc' : Int32} {j : Nat} (hin : vp_in x 10) (hj : x.toNatClampNeg = j) (h5 : a5 j = 1) (ho : oc - 1 = oc') (hp : ∀ a5', a5' j = 0 → (∀ i, i ≠ j → a5' i = a5 i) → post (l, oc', d, h, fv, ov, a1, a2, a3, a4, a5', a6, a7, a8, a9, a10, a11, a12, a13, a14)) : wX_attach_32 post x l oc d h fv ov a1 a2 a3 a4 a5 a6 a7 a8 a9 a10 a11 a12 a13 a14 := by
  subst hj
  subst ho
  exact ⟨hin, hin, nm_e ⟨hin, br_t (by rw [pk_us, h5]; decide) (nm_e (hp _ (by rw [pk_us, h5]; decide) (fun i hi => pk_un hi)))⟩⟩
theorem tv_a32n {post : St2 → Prop} {x : Int32} {j : Nat} (hin : vp_in x 10) (hj : x.toNatClampNeg = j) (h5 : a5 j = 2) (hp : ∀ a5', a5' j = 1 → (∀ i, i ≠ j → a5' i = a5 i) → post (l, oc, d, h, fv, ov, a1, a2, a3, a4, a5', a6, a7, a8, a9, a10, a11, a12, a13, a14)) : wX_attach_32 post x l oc d h fv ov a1 a2 a3 a4 a5 a6 a7 a8 a9 a10 a11 a12 a13 a14 := by
  subst hj
  exact ⟨hin, hin, nm_e ⟨hin, br_f (by rw [pk_us, h5]; decide) (hp _ (by rw [pk_us, h5]; decide) (fun i hi => pk_un hi))⟩⟩
theorem tv_rE {post : St2 → Prop} {x c : Int32} {n : Nat} (h2 : a2 0 = c) (hc : c ≤ x) (hp : post (l, oc, d, h, fv, ov, a1, a2, a3, a4, a5, a6, a7, a8, a9, a10, a11, a12, a13, a14)) : wX_read_7 post 0 (n + 1) x l oc d h fv ov a1 a2 a3 a4 a5 a6 a7 a8 a9 a10 a11 a12 a13 a14 := by
  subst h2
  exact ⟨tv_in (by decide), br_t hc hp⟩
theorem tv_r0 {post : St2 → Prop} {k c : Int32} {n : Nat} (h2 : a2 0 = c) (hc : ¬ c ≤ 0) (h1 : a1 0 = k) (k0 : ¬ k = 0) (k4 : ¬ 4 ≤ k) (hw : ∀ a4' a5' : Nat → Int32, a4' 0 = 0 → a5' 0 = 2 → wX_read_7 post 0 n 1 l 1 d h fv ov a1 a2 a3 a4' a5' a6 a7 a8 a9 a10 a11 a12 a13 a14) : wX_read_7 post 0 (n + 1) 0 l 0 d h fv ov a1 a2 a3 a4 a5 a6 a7 a8 a9 a10 a11 a12 a13 a14 := by
  subst h2
  refine ⟨tv_in (by decide), br_f hc (nm_r (e' := 0) (by decide) (br_t (by decide) ⟨tv_in (by decide), tv_want2 h1 k0 k4 ?_⟩))⟩
  refine br_f (by decide) ⟨tv_in (by decide), nm_e ⟨tv_in (by decide), nm_e (nm_r (e' := 1) (by decide) (nm_r (e' := 1) (by decide) ?_))⟩⟩
  exact hw _ _ (tv_us (by decide) (by decide)) (tv_us (by decide) (by decide))
theorem tv_r1 {post : St2 → Prop} {c : Int32} {n : Nat} (h2 : a2 0 = c) (hc : ¬ c ≤ 1) (h1 : a1 1 = 0) (h4 : a4 0 = 0) (h5 : a5 0 = 2) (hw : ∀ a4' a5' : Nat → Int32, a4' 0 = 0 → a4' 1 = 1 → a5' 0 = 1 → a5' 1 = 1 → wX_read_7 post 0 n 2 l 2 d h fv ov a1 a2 a3 a4' a5' a6 a7 a8 a9 a10 a11 a12 a13 a14) : wX_read_7 post 0 (n + 1) 1 l 1 d h fv ov a1 a2 a3 a4 a5 a6 a7 a8 a9 a10 a11 a12 a13 a14 := by
  subst h2
  refine ⟨tv_in (by decide), br_f hc (nm_r (e' := 1) (by decide) (br_f (by decide) ?_))⟩
  refine nm_r (e' := 0) (by decide) ⟨tv_in (by decide), br_t (show (1 : Int32) = a4 0 + 1 by rw [h4]; decide) ?_⟩
  refine tv_a32n (j := 0) (tv_in (by decide)) (by decide) h5 (fun a5' e e' => ?_)
  refine ⟨tv_in (by decide), tv_want1 h1 ?_⟩
  refine br_f (by decide) ⟨tv_in (by decide), nm_e ⟨tv_in (by decide), nm_e (nm_r (e' := 2) (by decide) (nm_r (e' := 2) (by decide) ?_))⟩⟩
  exact hw _ _ (tv_un (by decide) h4) (tv_us (by decide) (by decide)) (tv_un (by decide) e) (tv_us (by decide) (by decide))
theorem tv_r2 {post : St2 → Prop} {c : Int32} {n : Nat} (h2 : a2 0 = c) (hc : ¬ c ≤ 2) (h1 : a1 2 = 4) (h4 : a4 1 = 1) (h5 : a5 1 = 1) (hw : ∀ a5' : Nat → Int32, a5' 0 = a5 0 → wX_read_7 post 0 n 3 l 1 d h fv ov a1 a2 a3 a4 a5' a6 a7 a8 a9 a10 a11 a12 a13 a14) : wX_read_7 post 0 (n + 1) 2 l 2 d h fv ov a1 a2 a3 a4 a5 a6 a7 a8 a9 a10 a11 a12 a13 a14 := by
  subst h2
  refine ⟨tv_in (by decide), br_f hc (nm_r (e' := 2) (by decide) (br_f (by decide) ?_))⟩
  refine nm_r (e' := 1) (by decide) ⟨tv_in (by decide), br_t (show (2 : Int32) = a4 1 + 1 by rw [h4]; decide) ?_⟩
  refine tv_a32z (j := 1) (oc' := 1) (tv_in (by decide)) (by decide) h5 (by decide) (fun a5' e e' => ?_)
  refine ⟨tv_in (by decide), tv_want0 h1 (by decide) (by decide) ?_⟩
  exact br_t (by decide) (nm_r (e' := 3) (by decide) (hw _ (e' 0 (by decide))))
theorem tv_r3 {post : St2 → Prop} {c : Int32} {n : Nat} (h2 : a2 0 = c) (hc : ¬ c ≤ 3) (h1 : a1 3 = 5) (h4 : a4 0 = 0) (h5 : a5 0 = 1) (hw : ∀ a5' : Nat → Int32, wX_read_7 post 0 n 4 l 0 d h fv ov a1 a2 (upd a3 0 3) a4 a5' a6 a7 a8 a9 a10 a11 a12 a13 a14) : wX_read_7 post 0 (n + 1) 3 l 1 d h fv ov a1 a2 a3 a4 a5 a6 a7 a8 a9 a10 a11 a12 a13 a14 := by
  subst h2
  have h4' : a4 (0 : Int32).toNatClampNeg = 0 := h4
  refine ⟨tv_in (by decide), br_f hc (nm_r (e' := 3) (by decide) (br_f (by decide) ?_))⟩
  refine nm_r (e' := 0) (by decide) ⟨tv_in (by decide), br_f (by rw [h4']; decide) ⟨tv_in (by decide), (by rw [h4']; exact tv_in (by decide)), nm_r (e' := upd a3 0 3) (by rw [h4']; rfl) ?_⟩⟩
  refine tv_a32z (j := 0) (oc' := 0) (tv_in (by decide)) (by decide) h5 (by decide) (fun a5' e e' => ?_)
  refine ⟨tv_in (by decide), tv_want0 h1 (by decide) (by decide) ?_⟩
  exact br_t (by decide) (nm_r (e' := 4) (by decide) (hw _))
theorem tv_c0 {post : Int32 → St2 → Prop} (h2 : a2 0 = 0) (hp : ∀ oc' a3' a4' a5', post 0 (l, oc', d, h, fv, ov, a1, a2, a3', a4', a5', a6, a7, a8, a9, a10, a11, a12, a13, a14)) : wpX_complete post (l, oc, d, h, fv, ov, a1, a2, a3, a4, a5, a6, a7, a8, a9, a10, a11, a12, a13, a14) 0 := by
  have g : a2 (0 : Int32).toNatClampNeg = 0 := h2
  refine br_t rfl (br_f (by decide) ⟨1, tv_rE h2 (by decide) ⟨tv_in (by decide), br_t (by rw [g]; decide) (hp _ _ _ _)⟩⟩)
theorem tv_c1 {post : Int32 → St2 → Prop} {k : Int32} (k0 : ¬ k = 0) (k4 : ¬ 4 ≤ k) (h2 : a2 0 = 1) (h1 : a1 0 = k) (hp : ∀ oc' a3' a4' a5', post 0 (l, oc', d, h, fv, ov, a1, a2, a3', a4', a5', a6, a7, a8, a9, a10, a11, a12, a13, a14)) : wpX_complete post (l, oc, d, h, fv, ov, a1, a2, a3, a4, a5, a6, a7, a8, a9, a10, a11, a12, a13, a14) 0 := by
  have g : a2 (0 : Int32).toNatClampNeg = 1 := h2
  refine br_t rfl (br_f (by decide) ⟨2, tv_r0 h2 (by decide) h1 k0 k4 (fun b4 b5 e4 e5 => ?_)⟩)
  exact tv_rE h2 (by decide) ⟨tv_in (by decide), br_f (by rw [g]; decide) (br_f (by decide) (hp _ _ _ _))⟩
theorem tv_c2 {post : Int32 → St2 → Prop} {k : Int32} (k0 : ¬ k = 0) (k4 : ¬ 4 ≤ k) (h2 : a2 0 = 2) (h1 : a1 0 = k) (h11 : a1 1 = 0) (hp : ∀ oc' a3' a4' a5', post 0 (l, oc', d, h, fv, ov, a1, a2, a3', a4', a5', a6, a7, a8, a9, a10, a11, a12, a13, a14)) : wpX_complete post (l, oc, d, h, fv, ov, a1, a2, a3, a4, a5, a6, a7, a8, a9, a10, a11, a12, a13, a14) 0 := by
  have g : a2 (0 : Int32).toNatClampNeg = 2 := h2
  refine br_t rfl (br_f (by decide) ⟨3, tv_r0 h2 (by decide) h1 k0 k4 (fun b4 b5 e4 e5 => tv_r1 h2 (by decide) h11 e4 e5 (fun c4 c5 f0 f1 g0 g1 => ?_))⟩)
  exact tv_rE h2 (by decide) ⟨tv_in (by decide), br_f (by rw [g]; decide) (br_f (by decide) (hp _ _ _ _))⟩
theorem tv_c3 {post : Int32 → St2 → Prop} {k : Int32} (k0 : ¬ k = 0) (k4 : ¬ 4 ≤ k) (h2 : a2 0 = 3) (h1 : a1 0 = k) (h11 : a1 1 = 0) (h12 : a1 2 = 4) (hp : ∀ oc' a3' a4' a5', post 0 (l, oc', d, h, fv, ov, a1, a2, a3', a4', a5', a6, a7, a8, a9, a10, a11, a12, a13, a14)) : wpX_complete post (l, oc, d, h, fv, ov, a1, a2, a3, a4, a5, a6, a7, a8, a9, a10, a11, a12, a13, a14) 0 := by
  have g : a2 (0 : Int32).toNatClampNeg = 3 := h2
  refine br_t rfl (br_f (by decide) ⟨4, tv_r0 h2 (by decide) h1 k0 k4 (fun b4 b5 e4 e5 => tv_r1 h2 (by decide) h11 e4 e5 (fun c4 c5 f0 f1 g0 g1 => tv_r2 h2 (by decide) h12 f1 g1 (fun q5 q0 => ?_)))⟩)
  exact tv_rE h2 (by decide) ⟨tv_in (by decide), br_f (by rw [g]; decide) (br_f (by decide) (hp _ _ _ _))⟩
theorem tv_c4 {post : Int32 → St2 → Prop} {k : Int32} (k0 : ¬ k = 0) (k4 : ¬ 4 ≤ k) (h2 : a2 0 = 4) (h1 : a1 0 = k) (h11 : a1 1 = 0) (h12 : a1 2 = 4) (h13 : a1 3 = 5) (hp : ∀ a4' a5', post 1 (l, 0, d, h, fv, ov, a1, a2, upd a3 0 3, a4', a5', a6, a7, a8, a9, a10, a11, a12, a13, a14)) : wpX_complete post (l, oc, d, h, fv, ov, a1, a2, a3, a4, a5, a6, a7, a8, a9, a10, a11, a12, a13, a14) 0 := by
  have g : a2 (0 : Int32).toNatClampNeg = 4 := h2
  refine br_t rfl (br_f (by decide) ⟨5, tv_r0 h2 (by decide) h1 k0 k4 (fun b4 b5 e4 e5 => tv_r1 h2 (by decide) h11 e4 e5 (fun c4 c5 f0 f1 g0 g1 => tv_r2 h2 (by decide) h12 f1 g1 (fun q5 q0 => tv_r3 h2 (by decide) h13 f0 (by rw [q0]; exact g0) (fun s5 => ?_))))⟩)
  exact tv_rE h2 (by decide) ⟨tv_in (by decide), br_f (by rw [g]; decide) (br_t rfl (hp _ _))⟩
theorem tv_feed {post : Int32 → St2 → Prop} {t c : Int32} {j : Nat} (hc : a2 0 = c) (h9 : ¬ 9 ≤ c) (t0 : ¬ t < 0) (t7 : ¬ 7 < t) (hin : vp_in ((0 * 9) + c) 18) (hj : ((0 * 9) + c).toNatClampNeg = j)
    (C : ∀ P : Int32 → St2 → Prop, (∀ oc' a3' a4' a5', P 0 (l, oc', d, h, fv, ov, a1, a2, a3', a4', a5', a6, a7, a8, a9, a10, a11, a12, a13, a14)) → wpX_complete P (l, oc, d, h, fv, ov, a1, a2, a3, a4, a5, a6, a7, a8, a9, a10, a11, a12, a13, a14) 0)
    (hp : ∀ oc' a3' a4' a5', post ((c + 1).toInt8.toInt32) (l, oc', d, h, fv, ov, upd a1 j t.toInt8.toInt32, upd a2 0 ((c + 1).toInt8.toInt32), a3', a4', a5', a6, a7, a8, a9, a10, a11, a12, a13, a14)) : wpX_feed post (l, oc, d, h, fv, ov, a1, a2, a3, a4, a5, a6, a7, a8, a9, a10, a11, a12, a13, a14) 0 t := by
  subst hc
  subst hj
  refine br_t rfl (br_f (by decide) (br_f t0 (br_f t7 ⟨tv_in (by decide), br_f h9 (C _ (fun oc' a3' a4' a5' => ?_))⟩)))
  refine br_t rfl ⟨tv_in (by decide), hin, nm_e ⟨tv_in (by decide), tv_in (by decide), nm_e ⟨tv_in (by decide), ?_⟩⟩⟩
  exact hp oc' a3' a4' a5'
end
end
section
section
variable {l oc d h fv ov : Int32} {a1 a2 a3 a4 a5 a6 a7 a8 a9 a10 a11 a12 a13 a14 : Nat → Int32}
/-! valueOf, value -/
theorem tv_vo1 {post : Int32 → Prop} {p x : Int32} (e : p = 1) (hp : post (x / 3 - x / 3 / 3 * 3)) : wpX_valueOf post () p x := by
  subst e
  exact ⟨2, br_f (by decide) ⟨by decide, nm_e (nm_r (e' := 1) (by decide) (br_t (by decide) ⟨by decide, hp⟩))⟩⟩
theorem tv_vo0 {post : Int32 → Prop} {p x : Int32} (e : p = 0) (hp : post (x - x / 3 * 3)) : wpX_valueOf post () p x := by
  subst e
  exact ⟨1, br_t (by decide) ⟨by decide, hp⟩⟩
theorem tv_v3 {post : Int32 → St2 → Prop} {a : Int32} {n : Nat} (h1 : a1 3 = 5) (hw : ∀ b : Nat → Int32, b 3 = (a / 3 - a / 3 / 3 * 3).toInt8.toInt32 → wX_value_29 post 0 a l oc d h fv ov n 2 a1 a2 a3 a4 a5 a6 a7 a8 a9 a10 a11 a12 a13 b) : wX_value_29 post 0 a l oc d h fv ov (n + 1) 3 a1 a2 a3 a4 a5 a6 a7 a8 a9 a10 a11 a12 a13 a14 := by
  refine br_f (by decide) (nm_r (e' := 3) (by decide) ⟨tv_in (by decide), nm_r (e' := 5) h1 (br_f (by decide) (tv_vo1 (by decide) ⟨tv_in (by decide), nm_e (nm_r (e' := 2) (by decide) ?_)⟩))⟩)
  exact hw _ (tv_us (by decide) rfl)
theorem tv_v2 {post : Int32 → St2 → Prop} {a w : Int32} {n : Nat} (h1 : a1 2 = 4) (h3 : a14 3 = w) (hw : ∀ b : Nat → Int32, b 3 = w → b 2 = (a - a / 3 * 3).toInt8.toInt32 → wX_value_29 post 0 a l oc d h fv ov n 1 a1 a2 a3 a4 a5 a6 a7 a8 a9 a10 a11 a12 a13 b) : wX_value_29 post 0 a l oc d h fv ov (n + 1) 2 a1 a2 a3 a4 a5 a6 a7 a8 a9 a10 a11 a12 a13 a14 := by
  refine br_f (by decide) (nm_r (e' := 2) (by decide) ⟨tv_in (by decide), nm_r (e' := 4) h1 (br_f (by decide) (tv_vo0 (by decide) ⟨tv_in (by decide), nm_e (nm_r (e' := 1) (by decide) ?_)⟩))⟩)
  exact hw _ (tv_un (by decide) h3) (tv_us (by decide) rfl)
theorem tv_v1 {post : Int32 → St2 → Prop} {a w x : Int32} {n : Nat} (h1 : a1 1 = 0) (h3 : a14 3 = w) (h2 : a14 2 = x) (hw : ∀ b : Nat → Int32, b 3 = w → b 1 = (tv_not l x).toInt8.toInt32 → wX_value_29 post 0 a l oc d h fv ov n 0 a1 a2 a3 a4 a5 a6 a7 a8 a9 a10 a11 a12 a13 b) : wX_value_29 post 0 a l oc d h fv ov (n + 1) 1 a1 a2 a3 a4 a5 a6 a7 a8 a9 a10 a11 a12 a13 a14 := by
  subst h2
  refine br_f (by decide) (nm_r (e' := 1) (by decide) ⟨tv_in (by decide), nm_r (e' := 0) h1 (br_t (by decide) (br_t rfl ⟨tv_in (by decide), tv_wnot ⟨tv_in (by decide), nm_e (nm_r (e' := 0) (by decide) ?_)⟩⟩))⟩)
  exact hw _ (tv_un (by decide) h3) (tv_us (by decide) rfl)
theorem tv_v0 {post : Int32 → St2 → Prop} {a w y k : Int32} {n : Nat} (h1 : a1 0 = k) (k0 : ¬ k = 0) (k4 : k < 4) (hs : a3 0 = 3) (h3 : a14 3 = w) (h2 : a14 1 = y) (hp : ∀ b : Nat → Int32, post (tv_ap l k y w).toInt8.toInt32 (l, oc, d, h, fv, ov, a1, a2, a3, a4, a5, a6, a7, a8, a9, a10, a11, a12, a13, b)) : wX_value_29 post 0 a l oc d h fv ov (n + 1 + 1) 0 a1 a2 a3 a4 a5 a6 a7 a8 a9 a10 a11 a12 a13 a14 := by
  have hs' : a3 (0 : Int32).toNatClampNeg = 3 := hs
  subst h2
  subst h3
  refine br_f (by decide) (nm_r (e' := 0) (by decide) ⟨tv_in (by decide), nm_r (e' := k) h1 (br_t k4 (br_f k0 ⟨tv_in (by decide), tv_in (by decide), ?_⟩))⟩)
  rw [hs']
  refine ⟨tv_in (by decide), tv_wap ⟨tv_in (by decide), nm_e (nm_r (e' := -1) (by decide) (br_t (by decide) ⟨tv_in (by decide), ?_⟩))⟩⟩
  exact hp _
def tv_val (l k a : Int32) : Int32 := (tv_ap l k (tv_not l (a - a / 3 * 3).toInt8.toInt32).toInt8.toInt32 (a / 3 - a / 3 / 3 * 3).toInt8.toInt32).toInt8.toInt32
theorem tv_wval {post : Int32 → St2 → Prop} {a k : Int32} (k0 : ¬ k = 0) (k4 : ¬ 4 ≤ k) (k4' : k < 4) (h2 : a2 0 = 4) (h1 : a1 0 = k) (h11 : a1 1 = 0) (h12 : a1 2 = 4) (h13 : a1 3 = 5) (ha : ¬ a < 0) (ha' : ¬ 80 < a)
    (hp : ∀ a4' a5' b, post (tv_val l k a) (l, 0, d, h, fv, ov, a1, a2, upd a3 0 3, a4', a5', a6, a7, a8, a9, a10, a11, a12, a13, b)) : wpX_value post (l, oc, d, h, fv, ov, a1, a2, a3, a4, a5, a6, a7, a8, a9, a10, a11, a12, a13, a14) 0 a := by
  refine br_f ha (br_f ha' (tv_c4 k0 k4 h2 h1 h11 h12 h13 (fun a4' a5' => br_f (by decide) ⟨tv_in (by decide), nm_r (e' := 3) (show a2 0 - 1 = 3 by rw [h2]; decide) ⟨5, ?_⟩⟩)))
  refine tv_v3 h13 (fun b e3 => tv_v2 h12 e3 (fun b e3 e2 => tv_v1 h11 e3 e2 (fun b e3 e1 => tv_v0 h1 k0 k4' (tv_us rfl rfl) e3 e1 (fun b => ?_))))
  exact hp a4' a5' b
end
end
section
section
variable {l oc d h fv ov : Int32} {a1 a2 a3 a4 a5 a6 a7 a8 a9 a10 a11 a12 a13 a14 : Nat → Int32}
/-! goOn (two kinds of call), nextTurn, open -/
def tv_go (l b g o0 o1 : Int32) : Int32 := if tv_bef l b = 0 then 0 else if (o1 &&& g).toInt8.toInt32 = 0 then 0 else if (o0 &&& (tv_bef l b).toInt8.toInt32).toInt8.toInt32 = 0 then 0 else 1
def tv_gj (l k f o0 o1 : Int32) (j : Nat) : Int32 := tv_go l ((1 : Int32) <<< (nI (2 - j) &&& 31)).toInt8.toInt32 (tv_part l k (nI (2 - j)) f).toInt8.toInt32 o0 o1
def tv_res (l k f o0 o1 : Int32) : Nat → Int32
  | 0 => 0
  | m + 1 => if tv_part l k (nI (2 - m)) f = 0 then tv_res l k f o0 o1 m else if tv_gj l k f o0 o1 m = 1 then 1 else tv_res l k f o0 o1 m
theorem tv_go0 {post : Int32 → St2 → Prop} {k : Int32} (h6 : a6 0 = 0) (h1 : a1 0 = k) (k0 : ¬ k = 0) (k4 : k < 4) (hp : post 2 (l, oc, 1, 0, fv, ov, a1, a2, a3, a4, a5, a6, a7, a8, a9, a10, a11, a12, a13, a14)) : wpX_goOn post (l, oc, 1, 0, fv, ov, a1, a2, a3, a4, a5, a6, a7, a8, a9, a10, a11, a12, a13, a14) :=
  ⟨1, br_f (by decide) ⟨tv_in (by decide), nm_r (e' := 0) h6 ⟨tv_in (by decide), nm_r (e' := k) h1 (br_t k4 (br_f k0 hp))⟩⟩⟩
theorem tv_gL {post : Int32 → St2 → Prop} {c t i h' b o : Int32} {hi ci ii n : Nat} (hd : ¬ d ≤ h) (hh : vp_in h 32) (hhi : h.toNatClampNeg = hi) (h6 : a6 hi = c) (hc : vp_in c 18) (hci : c.toNatClampNeg = ci) (h1 : a1 ci = t) (ht : ¬ t < 4) (hti : t - 4 = i) (hi4 : vp_in i 4) (hii : i.toNatClampNeg = ii) (h7 : a7 hi = b) (h8 : a8 ii = o) (hh' : h + 1 = h')
    (H0 : (o &&& b).toInt8.toInt32 = 0 → ∀ a8', post 0 (l, oc, d, h, fv, ov, a1, a2, a3, a4, a5, a6, a7, a8', a9, a10, a11, a12, a13, a14)) (H1 : ¬ (o &&& b).toInt8.toInt32 = 0 → ∀ a8' : Nat → Int32, (∀ j, j ≠ ii → a8' j = a8 j) → wX_goOn_0 post n l oc d h' fv ov a1 a2 a3 a4 a5 a6 a7 a8' a9 a10 a11 a12 a13 a14) : wX_goOn_0 post (n + 1) l oc d h fv ov a1 a2 a3 a4 a5 a6 a7 a8 a9 a10 a11 a12 a13 a14 := by
  subst hhi
  subst h6
  subst hci
  subst h1
  subst hti
  subst hii
  subst h7
  subst h8
  subst hh'
  refine br_f hd ⟨hh, nm_e ⟨hc, nm_e (br_f ht (nm_e ⟨hi4, hh, hi4, nm_e ⟨hi4, ?_⟩⟩))⟩⟩
  rw [pk_us]
  exact br_c (fun z => H0 z _) (fun z => nm_e (H1 z _ (fun j hj => pk_un hj)))
theorem tv_go2 {post : Int32 → St2 → Prop} {b g o0 o1 : Int32} (h11 : a1 1 = 0) (h12 : a1 2 = 4) (h13 : a1 3 = 5) (h61 : a6 1 = 1) (h62 : a6 2 = 3) (h71 : a7 1 = b) (h72 : a7 2 = g) (h80 : a8 0 = o0) (h81 : a8 1 = o1)
    (hp : ∀ d' h' a6' a7' a8', a6' 0 = a6 0 → a7' 0 = a7 0 → post (tv_go l b g o0 o1) (l, oc, d', h', fv, ov, a1, a2, a3, a4, a5, a6', a7', a8', a9, a10, a11, a12, a13, a14)) : wpX_goOn post (l, oc, 3, 1, fv, ov, a1, a2, a3, a4, a5, a6, a7, a8, a9, a10, a11, a12, a13, a14) := by
  by_cases c0 : tv_bef l b = 0
  · have e : tv_go l b g o0 o1 = 0 := by unfold tv_go; rw [if_pos c0]
    rw [e] at hp
    exact ⟨1, br_f (by decide) ⟨tv_in (by decide), nm_r (e' := 1) h61 ⟨tv_in (by decide), nm_r (e' := 0) h11 (br_t (by decide) (br_t rfl ⟨tv_in (by decide), tv_wbef h71 (br_t c0 (hp _ _ _ _ _ rfl rfl))⟩))⟩⟩⟩
  · refine ⟨4, br_f (by decide) ⟨tv_in (by decide), nm_r (e' := 1) h61 ⟨tv_in (by decide), nm_r (e' := 0) h11 (br_t (by decide) (br_t rfl ⟨tv_in (by decide), tv_wbef h71 (br_f c0 (tv_wdem (i := 3) (d' := 4) (by decide) (tv_in (by decide)) (by decide) (by decide) (nm_r (e' := 2) (by decide) ?_)))⟩))⟩⟩⟩
    refine tv_gL (c := 3) (t := 5) (i := 1) (h' := 3) (b := g) (o := o1) (hi := 2) (ci := 3) (ii := 1) (by decide) (tv_in (by decide)) (by decide) (tv_un (by decide) h62) (tv_in (by decide)) (by decide) h13 (by decide) (by decide) (tv_in (by decide)) (by decide) (tv_un (by decide) h72) h81 (by decide) (fun c1 b8 => ?_) (fun c1 b8 z8 => ?_)
    · have e : tv_go l b g o0 o1 = 0 := by unfold tv_go; rw [if_neg c0, if_pos c1]
      rw [e] at hp
      exact hp _ _ _ _ _ (pk_un (by decide)) (pk_un (by decide))
    · refine tv_gL (c := 2) (t := 4) (i := 0) (h' := 4) (b := (tv_bef l b).toInt8.toInt32) (o := o0) (hi := 3) (ci := 2) (ii := 0) (by decide) (tv_in (by decide)) (by decide) (tv_us rfl (by decide)) (tv_in (by decide)) (by decide) h12 (by decide) (by decide) (tv_in (by decide)) (by decide) (tv_us rfl rfl) (by rw [z8 0 (by decide)]; exact h80) (by decide) (fun c2 b8' => ?_) (fun c2 b8' z8' => ?_)
      · have e : tv_go l b g o0 o1 = 0 := by unfold tv_go; rw [if_neg c0, if_neg c1, if_pos c2]
        rw [e] at hp
        exact hp _ _ _ _ _ (pk_un (by decide)) (pk_un (by decide))
      · have e : tv_go l b g o0 o1 = 1 := by unfold tv_go; rw [if_neg c0, if_neg c1, if_neg c2]
        rw [e] at hp
        exact br_t (by decide) (hp _ _ _ _ _ (pk_un (by decide)) (pk_un (by decide)))
theorem tv_wpartE {post : Int32 → Prop} {t k x v f : Int32} (et : t = k) (ev : v = f) (hp : post (tv_part l k x f)) : wpX_partners post (l, oc, d, h, fv, ov, a1, a2, a3, a4, a5, a6, a7, a8, a9, a10, a11, a12, a13, a14) t x v := by
  subst et
  subst ev
  exact tv_wpart hp
theorem tv_n68 {post : Int32 → St2 → Prop} {k f o0 o1 : Int32} (h1 : a1 0 = k) (h3 : a3 0 = 3) (h6 : a6 0 = 0) (h7 : a7 0 = f) (m : Nat) (hm : m ≤ 3)
    (H0 : tv_res l k f o0 o1 m = 0 → post 0 (l, oc, 1, 0, fv, ov, a1, a2, a3, a4, a5, a6, a7, a8, a9, a10, a11, a12, a13, a14))
    (H1 : ∀ j, j < m → tv_res l k f o0 o1 m = (if tv_gj l k f o0 o1 j = 1 then 1 else tv_res l k f o0 o1 j) → ∀ a6' a7' a12' : Nat → Int32, a6' 0 = 0 → a6' 1 = 1 → a6' 2 = 3 → a7' 0 = f → a7' 1 = ((1 : Int32) <<< (nI (2 - j) &&& 31)).toInt8.toInt32 → a7' 2 = (tv_part l k (nI (2 - j)) f).toInt8.toInt32 → a12' 0 = (nI (2 - j)).toInt8.toInt32 → post 1 (l, oc, 3, 1, fv, ov, a1, a2, a3, a4, a5, a6', a7', a8, a9, a10, a11, a12', a13, a14)) :
    wX_nextTurn_68 post 0 0 l oc 1 0 fv ov a1 a2 a3 a4 a5 a6 a7 a8 a9 a10 a11 a12 a13 a14 (m + 1) (nI (3 - m)) := by
  induction m with
  | zero => exact br_t (by decide) (H0 rfl)
  | succ m ih =>
    rw [show 3 - (m + 1) = 2 - m by omega]
    refine br_f (nI_ge (b := 3) (by omega) (by decide)) ⟨tv_in (by decide), tv_in (by decide), tv_wpartE h1 h7 ?_⟩
    by_cases c : tv_part l k (nI (2 - m)) f = 0
    · have e : tv_res l k f o0 o1 (m + 1) = tv_res l k f o0 o1 m := by rw [tv_res, if_pos c]
      rw [e] at H0 H1
      exact br_t c (nm_r (e' := nI (3 - m)) (by rw [nI_1, show 2 - m + 1 = 3 - m by omega]) (ih (by omega) H0 (fun j hj => H1 j (by omega))))
    · have e : tv_res l k f o0 o1 (m + 1) = (if tv_gj l k f o0 o1 m = 1 then 1 else tv_res l k f o0 o1 m) := by rw [tv_res, if_neg c]
      refine br_f c ⟨tv_in (by decide), nm_e (tv_wdem (i := 1) (d' := 2) (by decide) (tv_in (by decide)) (by decide) (by decide) ⟨tv_in (by decide), tv_wdem (i := 2) (d' := 3) (by decide) (tv_in (by decide)) (by decide) (by decide) (nm_r (e' := 1) (by decide) ?_)⟩)⟩
      exact H1 m (by omega) e _ _ _ (tv_un (by decide) (tv_un (by decide) h6)) (tv_un (by decide) (tv_us rfl (by decide))) (tv_us rfl (show (a3 0).toInt8.toInt32 = 3 by rw [h3]; decide)) (tv_un (by decide) (tv_un (by decide) h7)) (tv_un (by decide) (tv_us rfl rfl)) (tv_us rfl rfl) (tv_us (by decide) rfl)
theorem tv_next {post : Int32 → St2 → Prop} {k f o0 o1 : Int32} {m : Nat} (hm : m ≤ 3) (h1 : a1 0 = k) (h3 : a3 0 = 3) (h6 : a6 0 = 0) (h7 : a7 0 = f) (h9 : a9 0 = 1) (h10 : a10 0 = 0) (h12 : a12 0 + 1 = nI (3 - m)) (e0 : vp_nar .byte (a11 0) = o0) (e1 : vp_nar .byte (a11 1) = o1)
    (H0 : tv_res l k f o0 o1 m = 0 → ∀ a8', post 0 (l, oc, 1, 0, fv, ov, a1, a2, a3, a4, a5, a6, a7, a8', a9, a10, a11, a12, a13, a14))
    (H1 : ∀ j, j < m → tv_res l k f o0 o1 m = (if tv_gj l k f o0 o1 j = 1 then 1 else tv_res l k f o0 o1 j) → ∀ a6' a7' a8' a12' : Nat → Int32, a6' 0 = 0 → a6' 1 = 1 → a6' 2 = 3 → a7' 0 = f → a7' 1 = ((1 : Int32) <<< (nI (2 - j) &&& 31)).toInt8.toInt32 → a7' 2 = (tv_part l k (nI (2 - j)) f).toInt8.toInt32 → a12' 0 = (nI (2 - j)).toInt8.toInt32 → a8' 0 = o0 → a8' 1 = o1 → post 1 (l, oc, 3, 1, fv, ov, a1, a2, a3, a4, a5, a6', a7', a8', a9, a10, a11, a12', a13, a14)) :
    wpX_nextTurn post (l, oc, d, h, fv, ov, a1, a2, a3, a4, a5, a6, a7, a8, a9, a10, a11, a12, a13, a14) 0 := by
  refine ⟨tv_in (by decide), nm_r (e' := 1) h9 ⟨tv_in (by decide), nm_r (e' := 0) h10 ⟨5, ?_⟩⟩⟩
  refine br_f (by decide) ⟨tv_in (by decide), tv_in (by decide), nm_e (nm_r (e' := 1) (by decide) ?_)⟩
  refine br_f (by decide) ⟨tv_in (by decide), tv_in (by decide), nm_e (nm_r (e' := 2) (by decide) ?_)⟩
  refine br_f (by decide) ⟨tv_in (by decide), tv_in (by decide), nm_e (nm_r (e' := 3) (by decide) ?_)⟩
  refine br_f (by decide) ⟨tv_in (by decide), tv_in (by decide), nm_e (nm_r (e' := 4) (by decide) ?_)⟩
  refine br_t (by decide) ⟨tv_in (by decide), nm_r (e' := 0) h6 ⟨tv_in (by decide), nm_r (e' := nI (3 - m)) h12 ⟨m + 1, ?_⟩⟩⟩
  exact tv_n68 h1 h3 h6 h7 m hm (fun z => H0 z _) (fun j hj e b6 b7 b12 q1 q2 q3 q4 q5 q6 q7 => H1 j hj e b6 b7 _ b12 q1 q2 q3 q4 q5 q6 q7 (tv_un (by decide) (tv_un (by decide) (tv_un (by decide) (tv_us (by decide) e0)))) (tv_un (by decide) (tv_un (by decide) (tv_us (by decide) e1))))
theorem tv_open {post : St2 → Prop} {w0 w1 : Int32} (e0 : vp_nar .byte (a8 0) = w0) (e1 : vp_nar .byte (a8 1) = w1)
    (hp : ∀ a9' a10' a11' a12' : Nat → Int32, a9' 0 = d.toInt8.toInt32 → a10' 0 = h.toInt8.toInt32 → a11' 0 = w0 → a11' 1 = w1 → a12' 0 = -1 → post (l, oc, d, h, fv, ov, a1, a2, a3, a4, a5, a6, a7, a8, a9', a10', a11', a12', a13, a14)) : wpX_open post (l, oc, d, h, fv, ov, a1, a2, a3, a4, a5, a6, a7, a8, a9, a10, a11, a12, a13, a14) 0 := by
  refine ⟨tv_in (by decide), nm_e ⟨tv_in (by decide), nm_e ⟨tv_in (by decide), nm_e ⟨5, ?_⟩⟩⟩⟩
  refine br_f (by decide) ⟨tv_in (by decide), tv_in (by decide), nm_e (nm_r (e' := 1) (by decide) ?_)⟩
  refine br_f (by decide) ⟨tv_in (by decide), tv_in (by decide), nm_e (nm_r (e' := 2) (by decide) ?_)⟩
  refine br_f (by decide) ⟨tv_in (by decide), tv_in (by decide), nm_e (nm_r (e' := 3) (by decide) ?_)⟩
  refine br_f (by decide) ⟨tv_in (by decide), tv_in (by decide), nm_e (nm_r (e' := 4) (by decide) ?_)⟩
  refine br_t (by decide) ?_
  exact hp _ _ _ _ (tv_us (by decide) rfl) (tv_us (by decide) rfl) (tv_un (by decide) (tv_un (by decide) (tv_un (by decide) (tv_us (by decide) e0)))) (tv_un (by decide) (tv_un (by decide) (tv_us (by decide) e1))) (tv_us (by decide) rfl)
end
end
section
section
variable {l oc d h fv ov : Int32} {a1 a2 a3 a4 a5 a6 a7 a8 a9 a10 a11 a12 a13 a14 : Nat → Int32}
/-! meets -/
theorem tv_12 : ∀ j, j < 3 → (nI (2 - j)).toInt8.toInt32 + 1 = nI (3 - j) := by decide
theorem tv_go_2 {l b g o0 o1 : Int32} : ¬ tv_go l b g o0 o1 = 2 := by
  unfold tv_go
  split
  · decide
  · split
    · decide
    · split
      · decide
      · decide
theorem tv_R {post : Int32 → St2 → Prop} {k f o0 o1 : Int32} (h10 : a1 0 = k) (h11 : a1 1 = 0) (h12 : a1 2 = 4) (h13 : a1 3 = 5) (h3 : a3 0 = 3) (m : Nat) :
    m ≤ 3 → ∀ n q : Nat, m ≤ n → q + m < 1000 → ∀ (d h : Int32) (a6 a7 a8 a9 a10 a11 a12 : Nat → Int32), a6 0 = 0 → a7 0 = f → a9 0 = 1 → a10 0 = 0 → a12 0 + 1 = nI (3 - m) → vp_nar .byte (a11 0) = o0 → vp_nar .byte (a11 1) = o1 →
    (∀ (d h : Int32) (a6 a7 a8 a9 a10 a11 a12 : Nat → Int32), post (tv_res l k f o0 o1 m) (l, oc, d, h, fv, ov, a1, a2, a3, a4, a5, a6, a7, a8, a9, a10, a11, a12, a13, a14)) → wX_meets_110 post (wX_meets_81 post n) (nI q) 2 1 0 l oc d h fv ov a1 a2 a3 a4 a5 a6 a7 a8 a9 a10 a11 a12 a13 a14 := by
  induction m using Nat.strongRecOn with
  | ind m ih =>
    intro hm n q hn hq d h a6 a7 a8 a9 a10 a11 a12 g6 g7 g9 g10 g12 e0 e1 hp
    refine br_f (by decide) (br_t rfl (tv_next hm h10 h3 g6 g7 g9 g10 g12 e0 e1 (fun e b8 => ?_) (fun j hj e b6 b7 b8 b12 q1 q2 q3 q4 q5 q6 q7 q8 q9 => ?_)))
    · rw [e] at hp
      exact br_t rfl (nm_r (e' := 0) (by decide) (br_t (by decide) (br_t rfl (hp _ _ _ _ _ _ _ _ _))))
    · refine br_f (by decide) (br_f (by decide) (br_f (by decide) (br_f (by decide) (tv_go2 h11 h12 h13 q2 q3 q5 q6 q8 q9 (fun d' h' c6 c7 c8 z6 z7 => nm_r (e' := nI (q + 1)) (nI_1 q) ?_)))))
      obtain ⟨n', rfl⟩ : ∃ n', n = n' + 1 := ⟨n - 1, by omega⟩
      refine br_f (nI_ge (b := 32768) (by omega) (by decide)) ?_
      by_cases c : tv_gj l k f o0 o1 j = 1
      · rw [if_pos c] at e
        rw [e] at hp
        exact br_t c (hp _ _ _ _ _ _ _ _ _)
      · rw [if_neg c] at e
        rw [e] at hp
        exact br_f c (br_f tv_go_2 ⟨2, ih j hj (by omega) n' (q + 1) (by omega) (by omega) _ _ _ _ _ _ _ _ _ (z6.trans q1) (z7.trans q4) g9 g10 (by rw [q7]; exact tv_12 j (by omega)) e0 e1 hp⟩)
def tv_M (l k fv w0 w1 : Int32) : Int32 := tv_res l k fv.toInt8.toInt32 w0.toInt8.toInt32 w1.toInt8.toInt32 3
theorem tv_nn {x y : Int32} (h : x = vp_nar .byte y) : vp_nar .byte x = y.toInt8.toInt32 := by
  rw [h, vp_nar_byte y]
  exact pk_vb y
theorem tv_meets {post : Int32 → St2 → Prop} {k : Int32} (h10 : a1 0 = k) (h11 : a1 1 = 0) (h12 : a1 2 = 4) (h13 : a1 3 = 5) (h3 : a3 0 = 3) (k0 : ¬ k = 0) (k4 : k < 4) (hf : ¬ fv = 7)
    (hp : ∀ (d h : Int32) (a6 a7 a8 a9 a10 a11 a12 : Nat → Int32), post (tv_M l k fv (a13 0) (a13 1)) (l, oc, d, h, fv, 7, a1, a2, a3, a4, a5, a6, a7, a8, a9, a10, a11, a12, a13, a14)) : wpX_meets post (l, oc, d, h, fv, 7, a1, a2, a3, a4, a5, a6, a7, a8, a9, a10, a11, a12, a13, a14) := by
  refine br_f hf (tv_wdem (i := 0) (d' := 1) (by decide) (tv_in (by decide)) (by decide) (by decide) (br_t rfl ⟨5, ?_⟩))
  refine br_f (by decide) ⟨tv_in (by decide), tv_in (by decide), nm_e (nm_r (e' := 1) (by decide) ?_)⟩
  refine br_f (by decide) ⟨tv_in (by decide), tv_in (by decide), nm_e (nm_r (e' := 2) (by decide) ?_)⟩
  refine br_f (by decide) ⟨tv_in (by decide), tv_in (by decide), nm_e (nm_r (e' := 3) (by decide) ?_)⟩
  refine br_f (by decide) ⟨tv_in (by decide), tv_in (by decide), nm_e (nm_r (e' := 4) (by decide) ?_)⟩
  refine br_t (by decide) (tv_go0 (k := k) (tv_us rfl (by decide)) h10 k0 k4 ⟨4, ?_⟩)
  refine br_f (by decide) (br_f (by decide) (br_t rfl ?_))
  refine tv_open (w0 := (a13 0).toInt8.toInt32) (w1 := (a13 1).toInt8.toInt32) (tv_nn (tv_un (by decide) (tv_un (by decide) (tv_un (by decide) (tv_us (by decide) rfl))))) (tv_nn (tv_un (by decide) (tv_un (by decide) (tv_us (by decide) rfl)))) (fun b9 b10 b11 b12 q9 q10 e0 e1 q12 => nm_r (e' := 1) (by decide) ⟨2, ?_⟩)
  refine tv_R h10 h11 h12 h13 h3 3 (by decide) 3 0 (by decide) (by decide) _ _ _ _ _ _ _ _ _ (tv_us rfl (by decide)) (tv_us rfl rfl) q9 q10 (by rw [q12]; decide) (by rw [e0]; exact pk_vb _) (by rw [e1]; exact pk_vb _) hp
end
end
section
section
variable {l oc d h fv ov : Int32} {a1 a2 a3 a4 a5 a6 a7 a8 a9 a10 a11 a12 a13 a14 : Nat → Int32}
/-! ask, values, valid, leastValue, least, findApart -/
def tv_K (k : Int32) (a1 a3 : Nat → Int32) : Prop := a1 0 = k ∧ a1 1 = 0 ∧ a1 2 = 4 ∧ a1 3 = 5 ∧ a3 0 = 3 ∧ ¬ k = 0 ∧ k < 4
/-- a whole formula k (not p0) p1 has been read in -/
def tv_F (k : Int32) (a1 a2 : Nat → Int32) : Prop := a1 0 = k ∧ a1 1 = 0 ∧ a1 2 = 4 ∧ a1 3 = 5 ∧ a2 0 = 4 ∧ ¬ k = 0 ∧ k < 4 ∧ ¬ 4 ≤ k
theorem tv_FK {k : Int32} (F : tv_F k a1 a2) : tv_K k a1 (upd a3 0 3) := ⟨F.1, F.2.1, F.2.2.1, F.2.2.2.1, tv_us rfl rfl, F.2.2.2.2.2.1, F.2.2.2.2.2.2.1⟩
theorem tv_FC {post : Int32 → St2 → Prop} {k : Int32} (F : tv_F k a1 a2) (hp : ∀ a4' a5', post 1 (l, 0, d, h, fv, ov, a1, a2, upd a3 0 3, a4', a5', a6, a7, a8, a9, a10, a11, a12, a13, a14)) : wpX_complete post (l, oc, d, h, fv, ov, a1, a2, a3, a4, a5, a6, a7, a8, a9, a10, a11, a12, a13, a14) 0 :=
  tv_c4 F.2.2.2.2.2.1 F.2.2.2.2.2.2.2 F.2.2.2.2.1 F.1 F.2.1 F.2.2.1 F.2.2.2.1 hp
theorem tv_KM {post : Int32 → St2 → Prop} {k : Int32} (K : tv_K k a1 a3) (hf : ¬ fv = 7)
    (hp : ∀ (d h : Int32) (a6 a7 a8 a9 a10 a11 a12 : Nat → Int32), post (tv_M l k fv (a13 0) (a13 1)) (l, oc, d, h, fv, 7, a1, a2, a3, a4, a5, a6, a7, a8, a9, a10, a11, a12, a13, a14)) : wpX_meets post (l, oc, d, h, fv, 7, a1, a2, a3, a4, a5, a6, a7, a8, a9, a10, a11, a12, a13, a14) :=
  tv_meets K.1 K.2.1 K.2.2.1 K.2.2.2.1 K.2.2.2.2.1 K.2.2.2.2.2.1 K.2.2.2.2.2.2 hf hp
theorem tv_ask {post : St2 → Prop} {p q : Int32} (hp : ∀ b : Nat → Int32, b 0 = 7 → b 1 = 7 → b 2 = 7 → b 3 = 7 → post (l, oc, d, h, p, q, a1, a2, a3, a4, a5, a6, a7, a8, a9, a10, a11, a12, b, a14)) : wpX_ask post (l, oc, d, h, fv, ov, a1, a2, a3, a4, a5, a6, a7, a8, a9, a10, a11, a12, a13, a14) p q := by
  refine ⟨5, ?_⟩
  refine br_f (by decide) ⟨tv_in (by decide), nm_e (nm_r (e' := 1) (by decide) ?_)⟩
  refine br_f (by decide) ⟨tv_in (by decide), nm_e (nm_r (e' := 2) (by decide) ?_)⟩
  refine br_f (by decide) ⟨tv_in (by decide), nm_e (nm_r (e' := 3) (by decide) ?_)⟩
  refine br_f (by decide) ⟨tv_in (by decide), nm_e (nm_r (e' := 4) (by decide) ?_)⟩
  refine br_t (by decide) ?_
  exact hp _ (tv_un (by decide) (tv_un (by decide) (tv_un (by decide) (tv_us (by decide) rfl)))) (tv_un (by decide) (tv_un (by decide) (tv_us (by decide) rfl))) (tv_un (by decide) (tv_us (by decide) rfl)) (tv_us (by decide) rfl)
theorem tv_ask1 {post : St2 → Prop} {v : Int32} (hp : ∀ b : Nat → Int32, b 0 = 7 → b 1 = 7 → b 2 = 7 → b 3 = 7 → post (l, oc, d, h, v, 7, a1, a2, a3, a4, a5, a6, a7, a8, a9, a10, a11, a12, b, a14)) : wpX_askOne post (l, oc, d, h, fv, ov, a1, a2, a3, a4, a5, a6, a7, a8, a9, a10, a11, a12, a13, a14) 0 v := by
  refine br_t rfl (br_t rfl ?_)
  unfold wX_askOne_21
  exact tv_ask hp
def tv_vs (l k x s : Int32) : Int32 := if tv_M l k ((1 : Int32) <<< (x &&& 31)) 7 7 = 0 then s else s ||| ((1 : Int32) <<< (x &&& 31))
def tv_set (l k : Int32) : Int32 := tv_vs l k 2 (tv_vs l k 1 (tv_vs l k 0 0))
theorem tv_va {post : Int32 → St2 → Prop} {k s x x' : Int32} {n : Nat} (K : tv_K k a1 a3) (hx : ¬ 3 ≤ x) (e : x + 1 = x') (hf : ¬ (1 : Int32) <<< (x &&& 31) = 7)
    (hw : ∀ (d h fv ov : Int32) (a6 a7 a8 a9 a10 a11 a12 a13 : Nat → Int32), wX_values_14 post 0 n (tv_vs l k x s) x' l oc d h fv ov a1 a2 a3 a4 a5 a6 a7 a8 a9 a10 a11 a12 a13 a14) : wX_values_14 post 0 (n + 1) s x l oc d h fv ov a1 a2 a3 a4 a5 a6 a7 a8 a9 a10 a11 a12 a13 a14 := by
  refine br_f hx (tv_ask1 (fun b e0 e1 e2 e3 => ?_))
  refine tv_KM K hf (fun d h a6 a7 a8 a9 a10 a11 a12 => ?_)
  rw [e0, e1]
  exact tv_sel (P := fun s' => wX_values_14 post 0 n s' x' l oc d h ((1 : Int32) <<< (x &&& 31)) 7 a1 a2 a3 a4 a5 a6 a7 a8 a9 a10 a11 a12 b a14) (hw _ _ _ _ _ _ _ _ _ _ _ _) (fun q => nm_r e q) (fun q => nm_e (nm_r e q))
theorem tv_values {post : Int32 → St2 → Prop} {k : Int32} (F : tv_F k a1 a2) (hp : ∀ (oc d h fv ov : Int32) (a3 a4 a5 a6 a7 a8 a9 a10 a11 a12 a13 : Nat → Int32), post (tv_set l k) (l, oc, d, h, fv, ov, a1, a2, a3, a4, a5, a6, a7, a8, a9, a10, a11, a12, a13, a14)) : wpX_values post (l, oc, d, h, fv, ov, a1, a2, a3, a4, a5, a6, a7, a8, a9, a10, a11, a12, a13, a14) 0 := by
  unfold wpX_values
  refine tv_FC F (fun b4 b5 => br_f (by decide) ⟨4, ?_⟩)
  refine tv_va (x' := 1) (tv_FK F) (by decide) (by decide) (by decide) (fun d h fv ov a6 a7 a8 a9 a10 a11 a12 a13 => ?_)
  refine tv_va (x' := 2) (tv_FK F) (by decide) (by decide) (by decide) (fun d h fv ov a6 a7 a8 a9 a10 a11 a12 a13 => ?_)
  refine tv_va (x' := 3) (tv_FK F) (by decide) (by decide) (by decide) (fun d h fv ov a6 a7 a8 a9 a10 a11 a12 a13 => ?_)
  exact br_t (by decide) (hp _ _ _ _ _ _ _ _ _ _ _ _ _ _ _ _)
def tv_vd (l k : Int32) : Int32 := if tv_M l k 3 7 7 = 0 then 1 else 0
theorem tv_valid {post : Int32 → St2 → Prop} {k : Int32} (F : tv_F k a1 a2) (hp : ∀ (oc d h fv ov : Int32) (a3 a4 a5 a6 a7 a8 a9 a10 a11 a12 a13 : Nat → Int32), post (tv_vd l k) (l, oc, d, h, fv, ov, a1, a2, a3, a4, a5, a6, a7, a8, a9, a10, a11, a12, a13, a14)) : wpX_valid post (l, oc, d, h, fv, ov, a1, a2, a3, a4, a5, a6, a7, a8, a9, a10, a11, a12, a13, a14) 0 := by
  unfold wpX_valid
  refine tv_FC F (fun b4 b5 => br_f (by decide) (tv_ask1 (fun b e0 e1 e2 e3 => ?_)))
  refine tv_KM (tv_FK F) (by decide) (fun d h a6 a7 a8 a9 a10 a11 a12 => ?_)
  rw [e0, e1]
  exact tv_sel (P := fun r => post r (l, 0, d, h, 3, 7, a1, a2, upd a3 0 3, b4, b5, a6, a7, a8, a9, a10, a11, a12, b, a14)) (hp _ _ _ _ _ _ _ _ _ _ _ _ _ _ _ _) id id
theorem tv_lv {post : Int32 → St2 → Prop} {k i w x x' B : Int32} {j n : Nat} (K : tv_K k a1 a3) (hf : ¬ fv = 7) (hi : vp_in i 4) (hj : i.toNatClampNeg = j) (hx : ¬ 3 ≤ x) (e : x + 1 = x') (hB : ((1 : Int32) <<< (x &&& 31)).toInt8.toInt32 = B)
    (H0 : ((w >>> (x &&& 31)) &&& 1) = 0 → wX_leastValue_9 post i w n x' l oc d h fv 7 a1 a2 a3 a4 a5 a6 a7 a8 a9 a10 a11 a12 a13 a14)
    (H1 : ¬ ((w >>> (x &&& 31)) &&& 1) = 0 → tv_M l k fv (upd a13 j B 0) (upd a13 j B 1) = 0 → ∀ (d h : Int32) (a6 a7 a8 a9 a10 a11 a12 : Nat → Int32), wX_leastValue_9 post i w n x' l oc d h fv 7 a1 a2 a3 a4 a5 a6 a7 a8 a9 a10 a11 a12 (upd a13 j B) a14)
    (H2 : ¬ ((w >>> (x &&& 31)) &&& 1) = 0 → ¬ tv_M l k fv (upd a13 j B 0) (upd a13 j B 1) = 0 → ∀ (d h : Int32) (a6 a7 a8 a9 a10 a11 a12 : Nat → Int32), post x (l, oc, d, h, fv, 7, a1, a2, a3, a4, a5, a6, a7, a8, a9, a10, a11, a12, upd a13 j B, a14)) :
    wX_leastValue_9 post i w (n + 1) x l oc d h fv 7 a1 a2 a3 a4 a5 a6 a7 a8 a9 a10 a11 a12 a13 a14 := by
  subst hj
  subst hB
  refine br_f hx (br_c (fun z => nm_r e (H0 z)) (fun z => ⟨hi, nm_e (tv_KM K hf (fun d h a6 a7 a8 a9 a10 a11 a12 => ?_))⟩))
  exact br_c (fun y => nm_r e (H1 z y _ _ _ _ _ _ _ _ _)) (fun y => H2 z y _ _ _ _ _ _ _ _ _)
theorem tv_lvA {post : Int32 → St2 → Prop} {k i : Int32} {j : Nat} (K : tv_K k a1 a3) (hf : ¬ fv = 7) (hi : vp_in i 4) (hj : i.toNatClampNeg = j) (j0 : 0 ≠ j) (j1 : 1 ≠ j) (hw : a13 j = 7) (hM : ¬ tv_M l k fv (a13 0) (a13 1) = 0)
    (hp : ∀ (d h : Int32) (a6 a7 a8 a9 a10 a11 a12 : Nat → Int32), post 0 (l, oc, d, h, fv, 7, a1, a2, a3, a4, a5, a6, a7, a8, a9, a10, a11, a12, upd a13 j 1, a14)) : wpX_leastValue post (l, oc, d, h, fv, 7, a1, a2, a3, a4, a5, a6, a7, a8, a9, a10, a11, a12, a13, a14) i := by
  refine ⟨hi, nm_r (e' := 7) (by rw [hj]; exact hw) ⟨1, tv_lv (x' := 1) (B := 1) K hf hi hj (by decide) (by decide) (by decide) (fun z => absurd z (by decide)) (fun _ z => ?_) (fun _ _ => hp)⟩⟩
  rw [pk_un j0, pk_un j1] at z
  exact absurd z hM
theorem tv_lv1 {post : Int32 → St2 → Prop} {k v b : Int32} (hv : (v = 0 ∧ b = 1) ∨ (v = 1 ∧ b = 2) ∨ (v = 2 ∧ b = 4)) (K : tv_K k a1 a3) (hf : ¬ fv = 7) (hw : a13 1 = b) (hM : ¬ tv_M l k fv (a13 0) b = 0)
    (hp : ∀ (d h : Int32) (a6 a7 a8 a9 a10 a11 a12 : Nat → Int32), post v (l, oc, d, h, fv, 7, a1, a2, a3, a4, a5, a6, a7, a8, a9, a10, a11, a12, upd a13 1 b, a14)) : wpX_leastValue post (l, oc, d, h, fv, 7, a1, a2, a3, a4, a5, a6, a7, a8, a9, a10, a11, a12, a13, a14) 1 := by
  have hM' : ¬ tv_M l k fv (upd a13 1 b 0) (upd a13 1 b 1) = 0 := by
    rw [pk_un (show 0 ≠ 1 by decide), pk_us]
    exact hM
  rcases hv with ⟨rfl, rfl⟩ | ⟨rfl, rfl⟩ | ⟨rfl, rfl⟩
  · exact ⟨tv_in (by decide), nm_r (e' := 1) hw ⟨1, tv_lv (j := 1) (x' := 1) (B := 1) K hf (tv_in (by decide)) (by decide) (by decide) (by decide) (by decide) (fun z => absurd z (by decide)) (fun _ z => absurd z hM') (fun _ _ => hp)⟩⟩
  · refine ⟨tv_in (by decide), nm_r (e' := 2) hw ⟨2, tv_lv (j := 1) (x' := 1) (B := 1) K hf (tv_in (by decide)) (by decide) (by decide) (by decide) (by decide) (fun _ => ?_) (fun z => absurd (by decide) z) (fun z => absurd (by decide) z)⟩⟩
    exact tv_lv (j := 1) (x' := 2) (B := 2) K hf (tv_in (by decide)) (by decide) (by decide) (by decide) (by decide) (fun z => absurd z (by decide)) (fun _ z => absurd z hM') (fun _ _ => hp)
  · refine ⟨tv_in (by decide), nm_r (e' := 4) hw ⟨3, tv_lv (j := 1) (x' := 1) (B := 1) K hf (tv_in (by decide)) (by decide) (by decide) (by decide) (by decide) (fun _ => ?_) (fun z => absurd (by decide) z) (fun z => absurd (by decide) z)⟩⟩
    refine tv_lv (j := 1) (x' := 2) (B := 2) K hf (tv_in (by decide)) (by decide) (by decide) (by decide) (by decide) (fun _ => ?_) (fun z => absurd (by decide) z) (fun z => absurd (by decide) z)
    exact tv_lv (j := 1) (x' := 3) (B := 4) K hf (tv_in (by decide)) (by decide) (by decide) (by decide) (by decide) (fun z => absurd z (by decide)) (fun _ z => absurd z hM') (fun _ _ => hp)
def tv_x (l k f b : Int32) : Int32 := if tv_M l k f 1 b = 0 then (if tv_M l k f 2 b = 0 then (if tv_M l k f 4 b = 0 then 0 else 2) else 1) else 0
theorem tv_lv0 {post : Int32 → St2 → Prop} {k b : Int32} (K : tv_K k a1 a3) (hf : ¬ fv = 7) (h0 : a13 0 = 7) (h1 : a13 1 = b)
    (hp : ∀ (d h : Int32) (a6 a7 a8 a9 a10 a11 a12 a13 : Nat → Int32), post (tv_x l k fv b) (l, oc, d, h, fv, 7, a1, a2, a3, a4, a5, a6, a7, a8, a9, a10, a11, a12, a13, a14)) : wpX_leastValue post (l, oc, d, h, fv, 7, a1, a2, a3, a4, a5, a6, a7, a8, a9, a10, a11, a12, a13, a14) 0 := by
  have u1 : ∀ (g : Nat → Int32) (w : Int32), g 1 = b → upd g 0 w 1 = b := fun g w hg => tv_un (by decide) hg
  refine ⟨tv_in (by decide), nm_r (e' := 7) h0 ⟨4, ?_⟩⟩
  refine tv_lv (j := 0) (x' := 1) (B := 1) K hf (tv_in (by decide)) (by decide) (by decide) (by decide) (by decide) (fun z => absurd z (by decide)) (fun _ z1 d h a6 a7 a8 a9 a10 a11 a12 => ?_) (fun _ z1 d h a6 a7 a8 a9 a10 a11 a12 => ?_)
  all_goals rw [pk_us, u1 _ _ h1] at z1
  rotate_left 1
  · have e : tv_x l k fv b = 0 := by unfold tv_x; rw [if_neg z1]
    rw [e] at hp
    exact hp _ _ _ _ _ _ _ _ _ _
  refine tv_lv (j := 0) (x' := 2) (B := 2) K hf (tv_in (by decide)) (by decide) (by decide) (by decide) (by decide) (fun z => absurd z (by decide)) (fun _ z2 d h a6 a7 a8 a9 a10 a11 a12 => ?_) (fun _ z2 d h a6 a7 a8 a9 a10 a11 a12 => ?_)
  all_goals rw [pk_us, u1 _ _ (u1 _ _ h1)] at z2
  rotate_left 1
  · have e : tv_x l k fv b = 1 := by unfold tv_x; rw [if_pos z1, if_neg z2]
    rw [e] at hp
    exact hp _ _ _ _ _ _ _ _ _ _
  refine tv_lv (j := 0) (x' := 3) (B := 4) K hf (tv_in (by decide)) (by decide) (by decide) (by decide) (by decide) (fun z => absurd z (by decide)) (fun _ z3 d h a6 a7 a8 a9 a10 a11 a12 => ?_) (fun _ z3 d h a6 a7 a8 a9 a10 a11 a12 => ?_)
  all_goals rw [pk_us, u1 _ _ (u1 _ _ (u1 _ _ h1))] at z3
  · have e : tv_x l k fv b = 0 := by unfold tv_x; rw [if_pos z1, if_pos z2, if_pos z3]
    rw [e] at hp
    exact br_t (by decide) (hp _ _ _ _ _ _ _ _ _ _)
  · have e : tv_x l k fv b = 2 := by unfold tv_x; rw [if_pos z1, if_pos z2, if_neg z3]
    rw [e] at hp
    exact hp _ _ _ _ _ _ _ _ _ _
def tv_ls (l k f v b : Int32) : Int32 := if tv_M l k f 7 b = 0 then -1 else 3 * (3 * (3 * (3 * 0 + 0) + 0) + v) + tv_x l k f b
theorem tv_least {post : Int32 → St2 → Prop} {k v b : Int32} (hv : (v = 0 ∧ b = 1) ∨ (v = 1 ∧ b = 2) ∨ (v = 2 ∧ b = 4)) (K : tv_K k a1 a3) (hf : ¬ fv = 7) (h0 : a13 0 = 7) (h1 : a13 1 = b) (h2 : a13 2 = 7) (h3 : a13 3 = 7)
    (hp : ∀ (d h : Int32) (a6 a7 a8 a9 a10 a11 a12 a13 : Nat → Int32), post (tv_ls l k fv v b) (l, oc, d, h, fv, 7, a1, a2, a3, a4, a5, a6, a7, a8, a9, a10, a11, a12, a13, a14)) : wpX_least post (l, oc, d, h, fv, 7, a1, a2, a3, a4, a5, a6, a7, a8, a9, a10, a11, a12, a13, a14) := by
  unfold wpX_least
  refine tv_KM K hf (fun d h a6 a7 a8 a9 a10 a11 a12 => ?_)
  rw [h0, h1]
  refine br_c (fun z => ?_) (fun z => ⟨5, ?_⟩)
  · have e : tv_ls l k fv v b = -1 := by unfold tv_ls; rw [if_pos z]
    rw [e] at hp
    exact hp _ _ _ _ _ _ _ _ _ _
  · have e : tv_ls l k fv v b = 3 * (3 * (3 * (3 * 0 + 0) + 0) + v) + tv_x l k fv b := by unfold tv_ls; rw [if_neg z]
    rw [e] at hp
    refine br_f (by decide) (tv_lvA (j := 3) K hf (tv_in (by decide)) (by decide) (by decide) (by decide) h3 (by rw [h0, h1]; exact z) (fun d h a6 a7 a8 a9 a10 a11 a12 => nm_e (nm_r (e' := 2) (by decide) ?_)))
    refine br_f (by decide) (tv_lvA (j := 2) K hf (tv_in (by decide)) (by decide) (by decide) (by decide) (tv_un (by decide) h2) (by rw [pk_un (show 0 ≠ 3 by decide), pk_un (show 1 ≠ 3 by decide), h0, h1]; exact z) (fun d h a6 a7 a8 a9 a10 a11 a12 => nm_e (nm_r (e' := 1) (by decide) ?_)))
    refine br_f (by decide) (tv_lv1 hv K hf (tv_un (by decide) (tv_un (by decide) h1)) (by rw [pk_un (show 0 ≠ 2 by decide), pk_un (show 0 ≠ 3 by decide), h0]; exact z) (fun d h a6 a7 a8 a9 a10 a11 a12 => nm_e (nm_r (e' := 0) (by decide) ?_)))
    refine br_f (by decide) (tv_lv0 (b := b) K hf (tv_un (by decide) (tv_un (by decide) (tv_un (by decide) h0))) (tv_us rfl rfl) (fun d h a6 a7 a8 a9 a10 a11 a12 a13 => nm_e (nm_r (e' := -1) (by decide) ?_)))
    exact br_t (by decide) (hp _ _ _ _ _ _ _ _ _ _)
def tv_bst (s r : Int32) : Int32 := if r < 0 then s else if s < 0 then r else if s ≤ r then s else r
def tv_apart (l k : Int32) : Int32 := tv_bst (tv_bst (tv_bst (-1) (tv_ls l k 6 0 1)) (tv_ls l k 5 1 2)) (tv_ls l k 3 2 4)
theorem tv_fa {post : Int32 → St2 → Prop} {k s x x' f b : Int32} {n : Nat} (hv : (x = 0 ∧ b = 1) ∨ (x = 1 ∧ b = 2) ∨ (x = 2 ∧ b = 4)) (K : tv_K k a1 a3) (hx : ¬ 3 ≤ x) (e : x + 1 = x') (he : 7 &&& (((1 : Int32) <<< (x &&& 31)) ^^^ (-1)) = f) (hf : ¬ f = 7) (hb : ((1 : Int32) <<< (x &&& 31)).toInt8.toInt32 = b)
    (hw : ∀ (d h fv ov : Int32) (a6 a7 a8 a9 a10 a11 a12 a13 : Nat → Int32), wX_findApart_24 post 0 1 n (tv_bst s (tv_ls l k f x b)) x' l oc d h fv ov a1 a2 a3 a4 a5 a6 a7 a8 a9 a10 a11 a12 a13 a14) : wX_findApart_24 post 0 1 (n + 1) s x l oc d h fv ov a1 a2 a3 a4 a5 a6 a7 a8 a9 a10 a11 a12 a13 a14 := by
  subst he
  refine br_f hx (tv_ask1 (fun c e0 e1 e2 e3 => ⟨tv_in (by decide), nm_e ?_⟩))
  refine tv_least hv K hf (tv_un (by decide) e0) (tv_us (by decide) hb) (tv_un (by decide) e2) (tv_un (by decide) e3) (fun d h a6 a7 a8 a9 a10 a11 a12 a13 => ?_)
  have hw' := hw d h (7 &&& (((1 : Int32) <<< (x &&& 31)) ^^^ (-1))) 7 a6 a7 a8 a9 a10 a11 a12 a13
  exact tv_sel (P := fun s' => wX_findApart_24 post 0 1 n s' x' l oc d h (7 &&& (((1 : Int32) <<< (x &&& 31)) ^^^ (-1))) 7 a1 a2 a3 a4 a5 a6 a7 a8 a9 a10 a11 a12 a13 a14) hw' (fun q => nm_r e q) (fun q => tv_sel (P := fun s' => wX_findApart_24 post 0 1 n s' x' l oc d h (7 &&& (((1 : Int32) <<< (x &&& 31)) ^^^ (-1))) 7 a1 a2 a3 a4 a5 a6 a7 a8 a9 a10 a11 a12 a13 a14) q (fun q => nm_r e q) (fun q => tv_sel (P := fun s' => wX_findApart_24 post 0 1 n s' x' l oc d h (7 &&& (((1 : Int32) <<< (x &&& 31)) ^^^ (-1))) 7 a1 a2 a3 a4 a5 a6 a7 a8 a9 a10 a11 a12 a13 a14) q (fun q => nm_r e q) (fun q => nm_r e q)))
theorem tv_findApart {post : Int32 → St2 → Prop} {k : Int32} (F : tv_F k a1 a2) (hp : ∀ (oc d h fv ov : Int32) (a3 a4 a5 a6 a7 a8 a9 a10 a11 a12 a13 : Nat → Int32), post (tv_apart l k) (l, oc, d, h, fv, ov, a1, a2, a3, a4, a5, a6, a7, a8, a9, a10, a11, a12, a13, a14)) : wpX_findApart post (l, oc, d, h, fv, ov, a1, a2, a3, a4, a5, a6, a7, a8, a9, a10, a11, a12, a13, a14) 0 1 := by
  refine br_f (by decide) (br_f (by decide) (tv_FC F (fun b4 b5 => br_f (by decide) ⟨4, ?_⟩)))
  refine tv_fa (x' := 1) (f := 6) (b := 1) (by decide) (tv_FK F) (by decide) (by decide) (by decide) (by decide) (by decide) (fun d h fv ov a6 a7 a8 a9 a10 a11 a12 a13 => ?_)
  refine tv_fa (x' := 2) (f := 5) (b := 2) (by decide) (tv_FK F) (by decide) (by decide) (by decide) (by decide) (by decide) (fun d h fv ov a6 a7 a8 a9 a10 a11 a12 a13 => ?_)
  refine tv_fa (x' := 3) (f := 3) (b := 4) (by decide) (tv_FK F) (by decide) (by decide) (by decide) (by decide) (by decide) (fun d h fv ov a6 a7 a8 a9 a10 a11 a12 a13 => ?_)
  exact br_t (by decide) (hp _ _ _ _ _ _ _ _ _ _ _ _ _ _ _ _)
end
end
section
section
/-! the law's own loop, and the pure facts -/
def tv_Ln (l x : Int32) : Int32 := if 2 ≤ l then (if x = 0 then 2 else 0) else 2 - x
theorem tv_wLn {P : Int32 → Prop} {l x : Int32} (hp : P (tv_Ln l x)) : wpL_not P () l x :=
  tv_sel (P := P) hp (fun q => tv_sel (P := P) q id id) id
theorem tv_Lap {P : Int32 → Prop} {l k x y : Int32} (hp : P (tv_ap l k x y)) : ((k = 1 → ((y ≤ x → P y) ∧ (¬ y ≤ x → P x))) ∧ (¬ k = 1 → ((k = 2 → ((x ≤ y → P y) ∧ (¬ x ≤ y → P x))) ∧ (¬ k = 2 → wpL_implies P () l x y)))) :=
  tv_sel (P := P) hp (fun q => tv_sel (P := P) q id id) (fun q => tv_sel (P := P) q (fun q => tv_sel (P := P) q id id) (fun q => nm_e (tv_sel (P := P) q (fun q => tv_sel (P := P) q id id) (fun q => tv_sel (P := P) q (fun q => tv_sel (P := P) q id id) (fun q => tv_sel (P := P) q id id)))))
def tv_fs (l k s b : Int32) : Int32 := if tv_ap l k (tv_Ln l (b - b / 3 * 3)) (b / 3) = b / 3 then s else b
def tv_first (l k : Int32) : Int32 := tv_fs l k (tv_fs l k (tv_fs l k (tv_fs l k (tv_fs l k (tv_fs l k (tv_fs l k (tv_fs l k (tv_fs l k (-1) 8) 7) 6) 5) 4) 3) 2) 1) 0
theorem tv_186 {post : Int32 → St0 → Prop} {mc ms kc ks n : Nat} {l k x7 x8 x9 x10 x11 x14 s b b' : Int32} (hb : ¬ b < 0) (e : b + (-1) = b') (hw : wL_lawOf_186 post mc ms l k x7 x8 x9 x10 x11 x14 kc ks n (tv_fs l k s b) b') : wL_lawOf_186 post mc ms l k x7 x8 x9 x10 x11 x14 kc ks (n + 1) s b := by
  refine br_f hb ⟨by decide, tv_wLn ⟨by decide, nm_e ?_⟩⟩
  refine tv_Lap (P := fun z => wL_lawOf_261 post mc ms (wL_lawOf_186 post mc ms l k x7 x8 x9 x10 x11 x14 kc ks n) l k x7 x8 x9 x10 x11 x14 s b (b / 3) z kc ks) ?_
  exact tv_sel (P := fun s' => wL_lawOf_186 post mc ms l k x7 x8 x9 x10 x11 x14 kc ks n s' b') hw (fun q => nm_r e q) (fun q => nm_r e q)
theorem tv_loop {post : Int32 → St0 → Prop} {mc ms kc ks : Nat} {l k x7 x8 x9 x10 x11 x14 : Int32} (h7 : x7 = 4) (h8 : x8 = x14) (h9 : (x9 &&& 4) = 4) (h10 : x10 = 0) (h11 : x11 = tv_first l k) (hp : post 1 ()) : ∃ n, wL_lawOf_186 post mc ms l k x7 x8 x9 x10 x11 x14 kc ks n (-1) 8 := by
  refine ⟨10, ?_⟩
  refine tv_186 (b' := 7) (by decide) (by decide) ?_
  refine tv_186 (b' := 6) (by decide) (by decide) ?_
  refine tv_186 (b' := 5) (by decide) (by decide) ?_
  refine tv_186 (b' := 4) (by decide) (by decide) ?_
  refine tv_186 (b' := 3) (by decide) (by decide) ?_
  refine tv_186 (b' := 2) (by decide) (by decide) ?_
  refine tv_186 (b' := 1) (by decide) (by decide) ?_
  refine tv_186 (b' := 0) (by decide) (by decide) ?_
  refine tv_186 (b' := -1) (by decide) (by decide) ?_
  exact br_t (by decide) (br_t h7 (br_t h8 (br_t h10 (br_t h11 (br_t h9 hp)))))
theorem tv_fin {l k : Int32} (hl : l = 0 ∨ l = 1 ∨ l = 2) (hk : k = 1 ∨ k = 2 ∨ k = 3) : (tv_set l k &&& 4) = 4 ∧ tv_vd l k = 0 ∧ tv_apart l k = tv_first l k := by
  rcases hl with rfl | rfl | rfl
  · rcases hk with rfl | rfl | rfl
    · decide +kernel
    · decide +kernel
    · decide +kernel
  · rcases hk with rfl | rfl | rfl
    · decide +kernel
    · decide +kernel
    · decide +kernel
  · rcases hk with rfl | rfl | rfl
    · decide +kernel
    · decide +kernel
    · decide +kernel
def tv_due (l k a : Int32) : Int32 := tv_ap l k (tv_Ln l (a - a / 3 * 3)) (a / 3 - a / 3 / 3 * 3)
theorem tv_vdue {l k : Int32} (hl : l = 0 ∨ l = 1 ∨ l = 2) (hk : k = 1 ∨ k = 2 ∨ k = 3) : ∀ t : Nat, t < 81 → tv_val l k (nI t) = tv_due l k (nI t) := by
  rcases hl with rfl | rfl | rfl
  · rcases hk with rfl | rfl | rfl
    · decide +kernel
    · decide +kernel
    · decide +kernel
  · rcases hk with rfl | rfl | rfl
    · decide +kernel
    · decide +kernel
    · decide +kernel
  · rcases hk with rfl | rfl | rfl
    · decide +kernel
    · decide +kernel
    · decide +kernel
end
end
section
section
theorem tv_mod (p : Int32) (m : Nat) (h0 : 0 < m) (hm : m < 2 ^ 31) : ∃ i, i < m ∧ (p &&& 65535) - (p &&& 65535) / nI m * nI m = nI i := by
  obtain ⟨j, hj, e⟩ := pk_andE p (m := 65535) 16 (by decide)
  refine ⟨j % m, Nat.mod_lt _ h0, ?_⟩
  rw [e]
  exact pk_rem (by omega) h0 hm
theorem tv_l3 : ∀ i, i < 3 → nI i = 0 ∨ nI i = 1 ∨ nI i = 2 := by decide
theorem tv_k3 : ∀ i, i < 3 → 1 + nI i = 1 ∨ 1 + nI i = 2 ∨ 1 + nI i = 3 := by decide
theorem tv_kf {k : Int32} (hk : k = 1 ∨ k = 2 ∨ k = 3) : ¬ k = 0 ∧ k < 4 ∧ ¬ 4 ≤ k ∧ ¬ k < 0 ∧ ¬ 7 < k ∧ k.toInt8.toInt32 = k := by
  rcases hk with rfl | rfl | rfl
  · decide
  · decide
  · decide
theorem tv_init {post : St2 → Prop} {l : Int32} (hl : l = 0 ∨ l = 1 ∨ l = 2) (hp : post (l, 0, 0, 0, 0, 0, (fun _ => 0), (fun _ => 0), (fun _ => 0), (fun _ => 0), (fun _ => 0), (fun _ => 0), (fun _ => 0), (fun _ => 0), (fun _ => 0), (fun _ => 0), (fun _ => 0), (fun _ => 0), (fun _ => 0), (fun _ => 0))) : wpX_init post 14 232 (0, 0, 0, 0, 0, 0) l := by
  have h0 : 0 ≤ l := by rcases hl with rfl | rfl | rfl <;> decide
  have h2 : l ≤ 2 := by rcases hl with rfl | rfl | rfl <;> decide
  exact ⟨by decide, by decide, by decide, by decide, by decide, by decide, by decide, by decide, by decide, by decide, by decide, by decide, by decide, by decide, by decide, by decide, by decide, by decide, by decide, by decide, by decide, by decide, by decide, by decide, by decide, by decide, by decide, by decide, br_t h0 (br_t h2 hp)⟩
theorem tv_law (p0 p1 p2 : Int32) (post : Int32 → St0 → Prop) (hp : post 1 ()) : wpL_lawOf post 76 1216 () p0 p1 p2 := by
  obtain ⟨i0, hi0, e0⟩ := tv_mod p0 3 (by decide) (by decide)
  obtain ⟨i1, hi1, e1⟩ := tv_mod p1 3 (by decide) (by decide)
  obtain ⟨t, ht, e2⟩ := tv_mod p2 81 (by decide) (by decide)
  refine ⟨by decide, nm_r (e' := nI i0) e0 ⟨by decide, by decide, 14, 232, by decide, by decide, ?_⟩⟩
  have hl := tv_l3 i0 hi0
  have hk := tv_k3 i1 hi1
  have e1' : 1 + ((p1 &&& 65535) - (p1 &&& 65535) / 3 * 3) = 1 + nI i1 := congrArg (fun z => 1 + z) e1
  revert hl hk e1'
  generalize nI i0 = l
  generalize 1 + nI i1 = k
  intro hl hk e1'
  obtain ⟨k0, k4, k4', kn, k7, kb⟩ := tv_kf hk
  refine tv_init hl ⟨by decide, nm_r (e' := k) e1' ⟨by decide, nm_r (e' := nI t) e2 ?_⟩⟩
  refine tv_feed (c := 0) (j := 0) rfl (by decide) kn k7 (tv_in (by decide)) (by decide) (fun P hP => tv_c0 rfl hP) (fun oc a3 a4 a5 => ?_)
  refine tv_feed (c := 1) (j := 1) (tv_us rfl (by decide)) (by decide) (by decide) (by decide) (tv_in (by decide)) (by decide) (fun P hP => tv_c1 k0 k4' (tv_us rfl (by decide)) (tv_us rfl kb) hP) (fun oc a3 a4 a5 => ?_)
  refine tv_feed (c := 2) (j := 2) (tv_us rfl (by decide)) (by decide) (by decide) (by decide) (tv_in (by decide)) (by decide) (fun P hP => tv_c2 k0 k4' (tv_us rfl (by decide)) (tv_un (by decide) (tv_us rfl kb)) (tv_us rfl (by decide)) hP) (fun oc a3 a4 a5 => ?_)
  refine tv_feed (c := 3) (j := 3) (tv_us rfl (by decide)) (by decide) (by decide) (by decide) (tv_in (by decide)) (by decide) (fun P hP => tv_c3 k0 k4' (tv_us rfl (by decide)) (tv_un (by decide) (tv_un (by decide) (tv_us rfl kb))) (tv_un (by decide) (tv_us rfl (by decide))) (tv_us rfl (by decide)) hP) (fun oc a3 a4 a5 => ?_)
  refine tv_wval (k := k) k0 k4' k4 (tv_us rfl (by decide)) (tv_un (by decide) (tv_un (by decide) (tv_un (by decide) (tv_us rfl kb)))) (tv_un (by decide) (tv_un (by decide) (tv_us rfl (by decide)))) (tv_un (by decide) (tv_us rfl (by decide))) (tv_us rfl (by decide)) (nI_pos (by omega)) (nI_nlt (a := 80) (b := t) (by omega) (by decide)) (fun a4 a5 b => ?_)
  have F : tv_F k (upd (upd (upd (upd (fun _ => 0) 0 k.toInt8.toInt32) 1 (0 : Int32).toInt8.toInt32) 2 (4 : Int32).toInt8.toInt32) 3 (5 : Int32).toInt8.toInt32) (upd (upd (upd (upd (fun _ => 0) 0 ((0 : Int32) + 1).toInt8.toInt32) 0 ((1 : Int32) + 1).toInt8.toInt32) 0 ((2 : Int32) + 1).toInt8.toInt32) 0 ((3 : Int32) + 1).toInt8.toInt32) :=
    ⟨tv_un (by decide) (tv_un (by decide) (tv_un (by decide) (tv_us rfl kb))), tv_un (by decide) (tv_un (by decide) (tv_us rfl (by decide))), tv_un (by decide) (tv_us rfl (by decide)), tv_us rfl (by decide), tv_us rfl (by decide), k0, k4, k4'⟩
  refine tv_values F (fun oc d h fv ov a3 a4 a5 a6 a7 a8 a9 a10 a11 a12 a13 => ?_)
  refine tv_valid F (fun oc d h fv ov a3 a4 a5 a6 a7 a8 a9 a10 a11 a12 a13 => ?_)
  refine tv_findApart F (fun oc d h fv ov a3 a4 a5 a6 a7 a8 a9 a10 a11 a12 a13 => ?_)
  refine ⟨by decide, tv_wLn ⟨by decide, by decide, nm_e ?_⟩⟩
  obtain ⟨f1, f2, f3⟩ := tv_fin hl hk
  have f4 := tv_vdue hl hk t ht
  refine tv_Lap (P := fun z => ∃ n, wL_lawOf_186 post 76 1216 l k ((3 : Int32) + 1).toInt8.toInt32 (tv_val l k (nI t)) (tv_set l k) (tv_vd l k) (tv_apart l k) z (1 + 14) (20 + 232) n (-1) 8) ?_
  exact tv_loop (by decide) f4 f1 f2 f3 hp
theorem i_vc (xs : Nat → Int32) (L : Nat) (hL : L ≤ 3) : wpL_law (fun r => r = 1) L xs := by
  have cell : ∀ (P : Int32 → Prop) (i : Nat), i < 3 → (∀ v, P v) → wpL_cellAt P L xs () (nI i) := by
    intro P i hi h
    exact pk_le L i (fun _ => h 0) (fun z => ⟨pk_in i L z, h _⟩)
  refine cell _ 0 (by decide) (fun p0 => cell _ 1 (by decide) (fun p1 => cell _ 2 (by decide) (fun p2 => ⟨76, 1216, by decide, by decide, ?_⟩)))
  exact tv_law p0 p1 p2 _ rfl
end
end
