section
/-! the empty object, the writes: what the law lays out before the run -/
section
variable {fc fw fe fd fh fn fl fm fv : Int32} {a1 a2 a3 a4 a5 a6 a7 a8 a9 a10 a11 a12 a13 a14 : Nat → Int32}
/-- dropAll: every key is -1 behind it -/
theorem bt_drop {post : St2 → Prop} (h : ∀ b5 : Nat → Int32, (∀ j, j < 16 → b5 j = -1) → post (fc, fw, fe, fd, fh, fn, fl, fm, fv, a1, a2, a3, a4, b5, a6, a7, a8, a9, a10, a11, a12, a13, a14)) : wpX_dropAll post (fc, fw, fe, fd, fh, fn, fl, fm, fv, a1, a2, a3, a4, a5, a6, a7, a8, a9, a10, a11, a12, a13, a14) :=
  pk_loop (fun n i s => wX_dropAll_2 post fc fw fe fd fh fn fl fm fv n (nI i) a1 a2 a3 a4 s a6 a7 a8 a9 a10 a11 a12 a13 a14) (fun i s => ∀ j, j < i → s j = -1) 16 0 a5 (by omega) (fun j hj => absurd hj (by omega))
    (fun n s hs => pk_le 16 16 (fun _ => h s hs) (fun z => absurd z (by omega)))
    (fun n i s hi hs hw => pk_le 16 i (fun z => absurd z (by omega)) (fun _ => ⟨pk_in i 16 hi, nm_e (nm_r (nI_1 i) (hw _ (fun j hj => by
      rw [nI_clamp (show i < 2 ^ 31 by omega)]
      by_cases e : j = i
      · rw [e, pk_us]
      · rw [pk_un e]; exact hs j (by omega))))⟩))
/-- a write while no trace is stored: the grid alone changes -/
theorem bt_write {post : St2 → Prop} {p q : Int32} {k : Nat} (hi : vp_in p 32) (hp : p.toNatClampNeg = k) (hk : ∀ j, j < 16 → a5 j = -1) (h : post (fc, fw, fe, fd, fh, fn, fl, fm, fv, upd a1 k q, a2, a3, a4, a5, a6, a7, a8, a9, a10, a11, a12, a13, a14)) : wpX_write post (fc, fw, fe, fd, fh, fn, fl, fm, fv, a1, a2, a3, a4, a5, a6, a7, a8, a9, a10, a11, a12, a13, a14) p q := by
  subst hp
  refine ⟨hi, nm_e ?_⟩
  exact pk_loop (σ := Unit) (fun n i _ => wX_write_9 post p fc fw fe fd fh fn fl fm fv n (nI i) (upd a1 p.toNatClampNeg q) a2 a3 a4 a5 a6 a7 a8 a9 a10 a11 a12 a13 a14) (fun _ _ => True) 16 0 () (by omega) trivial
    (fun n _ _ => pk_le 16 16 (fun _ => h) (fun z => absurd z (by omega)))
    (fun n i _ hi _ hw => pk_le 16 i (fun z => absurd z (by omega)) (fun _ => ⟨pk_in i 16 hi, br_t (by rw [nI_clamp (show i < 2 ^ 31 by omega), hk i hi]; decide) (nm_r (nI_1 i) (hw () trivial))⟩))
theorem bt_bad {post : Int32 → Prop} {x y : Int32} (h1 : ¬ x < 0) (h2 : ¬ 7 < x) (h3 : ¬ y < 0) (h4 : y ≤ 3) (h : post 0) : wpX_badCell post (fc, fw, fe, fd, fh, fn, fl, fm, fv, a1, a2, a3, a4, a5, a6, a7, a8, a9, a10, a11, a12, a13, a14) x y :=
  br_f h1 (br_f h2 (br_f h3 (br_t h4 h)))
theorem bt_put3 {post : Int32 → St2 → Prop} {x y q v0 v1 v2 : Int32} {k0 k1 k2 : Nat} (h1 : ¬ x < 0) (h2 : ¬ 7 < x) (h3 : ¬ y < 0) (h4 : y ≤ 3) (h5 : ¬ q < 0) (h6 : q ≤ 32767)
    (i0 : vp_in (((x + 0) &&& 7) + (8 * y)) 32) (i1 : vp_in (((x + 1) &&& 7) + (8 * y)) 32) (i2 : vp_in (((x + 2) &&& 7) + (8 * y)) 32)
    (e0 : (((x + 0) &&& 7) + (8 * y)).toNatClampNeg = k0) (e1 : (((x + 1) &&& 7) + (8 * y)).toNatClampNeg = k1) (e2 : (((x + 2) &&& 7) + (8 * y)).toNatClampNeg = k2)
    (w0 : (q >>> ((5 * (0 : Int32)) &&& 31)) &&& 31 = v0) (w1 : (q >>> ((5 * (1 : Int32)) &&& 31)) &&& 31 = v1) (w2 : (q >>> ((5 * (2 : Int32)) &&& 31)) &&& 31 = v2)
    (hk : ∀ j, j < 16 → a5 j = -1) (h : post 0 (fc, fw, fe, fd, fh, fn, fl, fm, fv, upd (upd (upd a1 k0 v0) k1 v1) k2 v2, a2, a3, a4, a5, a6, a7, a8, a9, a10, a11, a12, a13, a14)) : wpX_putThree post (fc, fw, fe, fd, fh, fn, fl, fm, fv, a1, a2, a3, a4, a5, a6, a7, a8, a9, a10, a11, a12, a13, a14) x y q := by
  subst w0 w1 w2
  unfold wpX_putThree
  refine bt_bad h1 h2 h3 h4 (br_t rfl (br_f h5 (br_t h6 ⟨4, ?_⟩)))
  refine br_f (by decide) (bt_write i0 e0 hk (nm_r (e' := 1) (by decide) ?_))
  refine br_f (by decide) (bt_write i1 e1 hk (nm_r (e' := 2) (by decide) ?_))
  refine br_f (by decide) (bt_write i2 e2 hk (nm_r (e' := 3) (by decide) ?_))
  exact br_t (by decide) h
theorem bt_put {post : Int32 → St2 → Prop} {x y q : Int32} {k : Nat} (h1 : ¬ x < 0) (h2 : ¬ 7 < x) (h3 : ¬ y < 0) (h4 : y ≤ 3) (h5 : ¬ q < 0) (h6 : q ≤ 31) (hi : vp_in (x + (8 * y)) 32) (he : (x + (8 * y)).toNatClampNeg = k)
    (hk : ∀ j, j < 16 → a5 j = -1) (h : ∀ r, post r (fc, fw, fe, fd, fh, fn, fl, fm, fv, upd a1 k q, a2, a3, a4, a5, a6, a7, a8, a9, a10, a11, a12, a13, a14)) : wpX_put post (fc, fw, fe, fd, fh, fn, fl, fm, fv, a1, a2, a3, a4, a5, a6, a7, a8, a9, a10, a11, a12, a13, a14) x y q := by
  unfold wpX_put
  exact bt_bad h1 h2 h3 h4 (br_t rfl (br_f h5 (br_t h6 ⟨hi, nm_e (bt_write hi he hk (h _))⟩)))
theorem bt_input {post : Int32 → St2 → Prop} {i v : Int32} {k : Nat} (h1 : ¬ i < 0) (h2 : i ≤ 3) (hi : vp_in i 4) (he : i.toNatClampNeg = k) (h : post 0 (fc, fw, fe, fd, fh, fn, fl, fm, fv, a1, upd a2 k v, a3, a4, a5, a6, a7, a8, a9, a10, a11, a12, a13, a14)) : wpX_input post (fc, fw, fe, fd, fh, fn, fl, fm, fv, a1, a2, a3, a4, a5, a6, a7, a8, a9, a10, a11, a12, a13, a14) i v := by
  subst he
  exact br_f h1 (br_t h2 ⟨hi, nm_e h⟩)
end
end
section
/-! entering instructions into a trace -/
section
variable {fc fw fe fd fh fn fl fm fv : Int32} {a1 a2 a3 a4 a5 a6 a7 a8 a9 a10 a11 a12 a13 a14 : Nat → Int32}
theorem bt_acc27 {post : St2 → Prop} {T off on l' rs rs' : Int32} {t : Nat} (hT : T.toNatClampNeg = t) (hi : vp_in T 16) (hr : a9 t = rs) (hl : fv - off + on = l') (hrs : (if l' ≤ rs then rs else l') = rs')
    (h : ∀ b9 : Nat → Int32, b9 t = rs' → post (fc, fw, fe, fd, fh, fn, fl, fm, l', a1, a2, a3, a4, a5, a6, a7, a8, b9, a10, a11, a12, a13, a14)) : wX_account_27 post T off on fc fw fe fd fh fn fl fm fv a1 a2 a3 a4 a5 a6 a7 a8 a9 a10 a11 a12 a13 a14 := by
  subst hT
  refine nm_r hl ⟨hi, br_c (fun g => ?_) (fun g => ⟨hi, nm_e ?_⟩)⟩
  · rw [hr] at g
    rw [if_pos g] at hrs
    exact h a9 (hr.trans hrs)
  · rw [hr] at g
    rw [if_neg g] at hrs
    exact h _ (pk_us.trans hrs)
/-- account: need and rise of trace t, and the level, are what they were or the new ones -/
theorem bt_acc {post : St2 → Prop} {T off on nd rs : Int32} {t : Nat} (l' nd' rs' : Int32) (hT : T.toNatClampNeg = t) (hi : vp_in T 16) (hn : a8 t = nd) (hr : a9 t = rs) (hl : fv - off + on = l') (hnd : (if off - fv ≤ nd then nd else off - fv) = nd') (hrs : (if l' ≤ rs then rs else l') = rs')
    (h : ∀ b8 b9 : Nat → Int32, b8 t = nd' → b9 t = rs' → post (fc, fw, fe, fd, fh, fn, fl, fm, l', a1, a2, a3, a4, a5, a6, a7, b8, b9, a10, a11, a12, a13, a14)) : wpX_account post (fc, fw, fe, fd, fh, fn, fl, fm, fv, a1, a2, a3, a4, a5, a6, a7, a8, a9, a10, a11, a12, a13, a14) T off on := by
  subst hT
  refine ⟨hi, br_c (fun g => bt_acc27 rfl hi hr hl hrs (fun b9 h9 => ?_)) (fun g => ⟨hi, nm_e (bt_acc27 rfl hi hr hl hrs (fun b9 h9 => ?_))⟩)⟩
  · rw [hn] at g
    rw [if_pos g] at hnd
    exact h a8 b9 (hn.trans hnd) h9
  · rw [hn] at g
    rw [if_neg g] at hnd
    exact h _ b9 (pk_us.trans hnd) h9
theorem bt_add {post : St2 → Prop} {T what v : Int32} {k : Nat} (m' : Int32) (hi : vp_in ((T * 16) + fm) 256) (hk : ((T * 16) + fm).toNatClampNeg = k) (hm : fm + 1 = m')
    (h : post (fc, fw, fe, fd, fh, fn, fl, m', fv, a1, a2, a3, a4, a5, a6, a7, a8, a9, a10, a11, a12, upd a13 k what, upd a14 k v)) : wpX_add post (fc, fw, fe, fd, fh, fn, fl, fm, fv, a1, a2, a3, a4, a5, a6, a7, a8, a9, a10, a11, a12, a13, a14) T what v := by
  subst hk
  exact ⟨hi, nm_e ⟨hi, nm_e (nm_r hm h)⟩⟩
/-- the last operation of trace T isn't a constant, or there are too few -/
def bt_unk (T fm q : Int32) (a13 : Nat → Int32) : Prop := fm < q ∨ (∃ k : Nat, ¬ fm < q ∧ vp_in (((T * 16) + fm) - 1) 256 ∧ (((T * 16) + fm) - 1).toNatClampNeg = k ∧ ¬ a13 k = 40)
theorem bt_kn {post : Int32 → Prop} {T q : Int32} (hq : ¬ q < 1) (hu : bt_unk T fm q a13) (h : post 0) : wpX_known post (fc, fw, fe, fd, fh, fn, fl, fm, fv, a1, a2, a3, a4, a5, a6, a7, a8, a9, a10, a11, a12, a13, a14) T q := by
  rcases hu with hm | ⟨k, hm, hi, rfl, ho⟩
  · exact br_t hm ⟨1, br_f hq (br_t rfl ⟨rfl, h⟩)⟩
  · exact br_f hm ⟨2, br_f hq (br_f (by decide) ⟨hi, br_f ho (nm_e (br_c (fun _ => ⟨rfl, h⟩) (fun _ => br_t rfl ⟨rfl, h⟩)))⟩)⟩
theorem bt_kny {post : Int32 → Prop} {T : Int32} (hm : ¬ fm < 1) (hi : vp_in (((T * 16) + fm) - 1) 256) (ho : a13 (((T * 16) + fm) - 1).toNatClampNeg = 40) (h : post 1) : wpX_known post (fc, fw, fe, fd, fh, fn, fl, fm, fv, a1, a2, a3, a4, a5, a6, a7, a8, a9, a10, a11, a12, a13, a14) T 1 :=
  br_f hm ⟨2, br_f (by decide) (br_f (by decide) ⟨hi, br_t ho (nm_e (br_t (by decide) ⟨rfl, h⟩))⟩)⟩
/-- a digit: a constant -/
theorem bt_en1 {post : St2 → Prop} {T nd rs : Int32} {t k : Nat} (l' nd' rs' m' : Int32) (hT : T.toNatClampNeg = t) (hi : vp_in T 16) (hn : a8 t = nd) (hr : a9 t = rs) (hl : fv - 0 + 1 = l') (hnd : (if 0 - fv ≤ nd then nd else 0 - fv) = nd') (hrs : (if l' ≤ rs then rs else l') = rs')
    (ki : vp_in ((T * 16) + fm) 256) (hk : ((T * 16) + fm).toNatClampNeg = k) (hm : fm + 1 = m')
    (h : ∀ b8 b9 : Nat → Int32, b8 t = nd' → b9 t = rs' → post (fc, fw, fe, fd, fh, fn, fl, m', l', a1, a2, a3, a4, a5, a6, a7, b8, b9, a10, a11, a12, upd a13 k 40, upd a14 k 1)) : wpX_enter post (fc, fw, fe, fd, fh, fn, fl, fm, fv, a1, a2, a3, a4, a5, a6, a7, a8, a9, a10, a11, a12, a13, a14) T 1 :=
  br_f (by decide) (br_f (by decide) (bt_acc l' nd' rs' hT hi hn hr hl hnd hrs (fun b8 b9 h8 h9 => bt_add m' ki hk hm (h b8 b9 h8 h9))))
/-- an operation on two numbers, not both known -/
theorem bt_en2 {post : St2 → Prop} {T c nd rs : Int32} {t k : Nat} (l' nd' rs' m' : Int32) (hc : ¬ c < 1 ∧ 9 < c ∧ ¬ c < 10 ∧ ¬ 13 < c) (hT : T.toNatClampNeg = t) (hi : vp_in T 16) (hn : a8 t = nd) (hr : a9 t = rs) (hl : fv - 2 + 1 = l') (hnd : (if 2 - fv ≤ nd then nd else 2 - fv) = nd') (hrs : (if l' ≤ rs then rs else l') = rs')
    (hu : bt_unk T fm 2 a13) (ki : vp_in ((T * 16) + fm) 256) (hk : ((T * 16) + fm).toNatClampNeg = k) (hm : fm + 1 = m')
    (h : ∀ b8 b9 : Nat → Int32, b8 t = nd' → b9 t = rs' → post (fc, fw, fe, fd, fh, fn, fl, m', l', a1, a2, a3, a4, a5, a6, a7, b8, b9, a10, a11, a12, upd a13 k c, upd a14 k 0)) : wpX_enter post (fc, fw, fe, fd, fh, fn, fl, fm, fv, a1, a2, a3, a4, a5, a6, a7, a8, a9, a10, a11, a12, a13, a14) T c :=
  br_f hc.1 (br_t hc.2.1 (br_f hc.2.2.1 (br_f hc.2.2.2 (bt_acc l' nd' rs' hT hi hn hr hl hnd hrs (fun b8 b9 h8 h9 => bt_kn (by decide) hu (br_t rfl (bt_add m' ki hk hm (h b8 b9 h8 h9))))))))
/-- a doubling of an unknown -/
theorem bt_en14 {post : St2 → Prop} {T nd rs : Int32} {t k : Nat} (l' nd' rs' m' : Int32) (hT : T.toNatClampNeg = t) (hi : vp_in T 16) (hn : a8 t = nd) (hr : a9 t = rs) (hl : fv - 1 + 2 = l') (hnd : (if 1 - fv ≤ nd then nd else 1 - fv) = nd') (hrs : (if l' ≤ rs then rs else l') = rs')
    (hu : bt_unk T fm 1 a13) (ki : vp_in ((T * 16) + fm) 256) (hk : ((T * 16) + fm).toNatClampNeg = k) (hm : fm + 1 = m')
    (h : ∀ b8 b9 : Nat → Int32, b8 t = nd' → b9 t = rs' → post (fc, fw, fe, fd, fh, fn, fl, m', l', a1, a2, a3, a4, a5, a6, a7, b8, b9, a10, a11, a12, upd a13 k 14, upd a14 k 0)) : wpX_enter post (fc, fw, fe, fd, fh, fn, fl, fm, fv, a1, a2, a3, a4, a5, a6, a7, a8, a9, a10, a11, a12, a13, a14) T 14 :=
  br_f (by decide) (br_t (by decide) (br_f (by decide) (br_t (by decide) (br_t rfl (nm_e (bt_kn (by decide) hu (br_t rfl (bt_acc l' nd' rs' hT hi hn hr hl hnd hrs (fun b8 b9 h8 h9 => br_t rfl (br_t rfl (bt_add m' ki hk hm (h b8 b9 h8 h9))))))))))))
/-- a given number, its place unknown -/
theorem bt_en28 {post : St2 → Prop} {T nd rs : Int32} {t k : Nat} (l' nd' rs' m' : Int32) (hT : T.toNatClampNeg = t) (hi : vp_in T 16) (hn : a8 t = nd) (hr : a9 t = rs) (hl : fv - 1 + 1 = l') (hnd : (if 1 - fv ≤ nd then nd else 1 - fv) = nd') (hrs : (if l' ≤ rs then rs else l') = rs')
    (hu : bt_unk T fm 1 a13) (ki : vp_in ((T * 16) + fm) 256) (hk : ((T * 16) + fm).toNatClampNeg = k) (hm : fm + 1 = m')
    (h : ∀ b8 b9 : Nat → Int32, b8 t = nd' → b9 t = rs' → post (fc, fw, fe, fd, fh, fn, fl, m', l', a1, a2, a3, a4, a5, a6, a7, b8, b9, a10, a11, a12, upd a13 k 28, upd a14 k 0)) : wpX_enter post (fc, fw, fe, fd, fh, fn, fl, fm, fv, a1, a2, a3, a4, a5, a6, a7, a8, a9, a10, a11, a12, a13, a14) T 28 :=
  br_f (by decide) (br_t (by decide) (br_f (by decide) (br_t (by decide) (br_f (by decide) (br_f (by decide) (br_f (by decide) (br_t rfl (nm_e (bt_kn (by decide) hu (br_f (by decide) (br_f (by decide) (br_f (by decide) (bt_acc l' nd' rs' hT hi hn hr hl hnd hrs (fun b8 b9 h8 h9 => br_t rfl (bt_add m' ki hk hm (h b8 b9 h8 h9))))))))))))))))
/-- a given number, its place known -/
theorem bt_en28k {post : St2 → Prop} {T nd rs : Int32} {t k : Nat} (l' nd' rs' : Int32) (hT : T.toNatClampNeg = t) (hi : vp_in T 16) (hn : a8 t = nd) (hr : a9 t = rs) (hl : fv - 1 + 1 = l') (hnd : (if 1 - fv ≤ nd then nd else 1 - fv) = nd') (hrs : (if l' ≤ rs then rs else l') = rs')
    (hm : ¬ fm < 1) (ki : vp_in (((T * 16) + fm) - 1) 256) (hk : (((T * 16) + fm) - 1).toNatClampNeg = k) (ho : a13 k = 40)
    (h : ∀ b8 b9 : Nat → Int32, b8 t = nd' → b9 t = rs' → post (fc, fw, fe, fd, fh, fn, fl, fm, l', a1, a2, a3, a4, a5, a6, a7, b8, b9, a10, a11, a12, upd a13 k 42, upd a14 k (a14 k &&& 3))) : wpX_enter post (fc, fw, fe, fd, fh, fn, fl, fm, fv, a1, a2, a3, a4, a5, a6, a7, a8, a9, a10, a11, a12, a13, a14) T 28 := by
  subst hk
  exact br_f (by decide) (br_t (by decide) (br_f (by decide) (br_t (by decide) (br_f (by decide) (br_f (by decide) (br_f (by decide) (br_t rfl (nm_e (bt_kny hm ki ho (br_f (by decide) (br_f (by decide) (br_f (by decide) (bt_acc l' nd' rs' hT hi hn hr hl hnd hrs (fun b8 b9 h8 h9 => br_f (by decide) ⟨ki, nm_e ⟨ki, ki, nm_e (h b8 b9 h8 h9)⟩⟩))))))))))))))
end
end
section
/-! following the grid -/
section
variable {fc fw fe fd fh fn fl fm fv : Int32} {a1 a2 a3 a4 a5 a6 a7 a8 a9 a10 a11 a12 a13 a14 : Nat → Int32}
theorem bt_mv0 {post : Int32 → Prop} {p r : Int32} (hr : (((p &&& 7) + 1) &&& 7) + (8 * (p >>> ((3 : Int32) &&& 31))) = r) (h : post r) : wpX_moved post (fc, fw, fe, fd, fh, fn, fl, fm, fv, a1, a2, a3, a4, a5, a6, a7, a8, a9, a10, a11, a12, a13, a14) p 0 := by
  subst hr
  exact nm_e (nm_e (br_t rfl (nm_e h)))
theorem bt_br0 {post : Int32 → Prop} {c : Int32} (hb : ¬ c = 22 ∧ ¬ c = 23 ∧ ¬ c = 25 ∧ ¬ c = 26 ∧ ¬ c = 29) (h : post 0) : wpX_breaks post (fc, fw, fe, fd, fh, fn, fl, fm, fv, a1, a2, a3, a4, a5, a6, a7, a8, a9, a10, a11, a12, a13, a14) c :=
  br_f hb.1 (br_f hb.2.1 (br_f hb.2.2.1 (br_f hb.2.2.2.1 (br_f hb.2.2.2.2 h))))
theorem bt_br1 {post : Int32 → Prop} {c : Int32} (hb : c = 25 ∨ c = 29) (h : post 1) : wpX_breaks post (fc, fw, fe, fd, fh, fn, fl, fm, fv, a1, a2, a3, a4, a5, a6, a7, a8, a9, a10, a11, a12, a13, a14) c := by
  rcases hb with rfl | rfl
  · exact br_f (by decide) (br_f (by decide) (br_t rfl h))
  · exact br_f (by decide) (br_f (by decide) (br_f (by decide) (br_f (by decide) (br_t rfl h))))
theorem bt_126 {post : St2 → Prop} {J : Int32 → Int32 → Int32 → Int32 → Int32 → Int32 → Int32 → Int32 → Int32 → Int32 → Int32 → Int32 → Int32 → (Nat → Int32) → (Nat → Int32) → (Nat → Int32) → (Nat → Int32) → (Nat → Int32) → (Nat → Int32) → (Nat → Int32) → (Nat → Int32) → (Nat → Int32) → (Nat → Int32) → (Nat → Int32) → (Nat → Int32) → (Nat → Int32) → (Nat → Int32) → Prop} {T x4 x6 x7 c r x6' x7' : Int32} (h24 : ¬ c = 24)
    (hr : (((x4 &&& 7) + 1) &&& 7) + (8 * (x4 >>> ((3 : Int32) &&& 31))) = r) (h6 : x6 + 1 = x6') (h7 : x7 + 1 = x7')
    (h : ∀ Q : St2 → Prop, (∀ {zfc zfw zfe zfd zfh zfn zfl zfm zfv : Int32} {za1 za2 za3 za4 za5 za6 za7 za8 za9 za10 za11 za12 za13 za14 : Nat → Int32}, J r 0 x6' x7' zfc zfw zfe zfd zfh zfn zfl zfm zfv za1 za2 za3 za4 za5 za6 za7 za8 za9 za10 za11 za12 za13 za14 → Q (zfc, zfw, zfe, zfd, zfh, zfn, zfl, zfm, zfv, za1, za2, za3, za4, za5, za6, za7, za8, za9, za10, za11, za12, za13, za14)) → wpX_enter Q (fc, fw, fe, fd, fh, fn, fl, fm, fv, a1, a2, a3, a4, a5, a6, a7, a8, a9, a10, a11, a12, a13, a14) T c) : wX_follow_126 post J T x4 0 x6 x7 c fc fw fe fd fh fn fl fm fv a1 a2 a3 a4 a5 a6 a7 a8 a9 a10 a11 a12 a13 a14 :=
  br_f h24 (h _ (fun hh => bt_mv0 hr (nm_r h6 (nm_r h7 hh))))
def bt_ok (c : Int32) : Prop := (¬ c = 22 ∧ ¬ c = 23 ∧ ¬ c = 25 ∧ ¬ c = 26 ∧ ¬ c = 29) ∧ ¬ c = 24 ∧ (c < 18 ∨ 21 < c)
/-- one cell is entered and left to the right -/
theorem bt_fl {post : St2 → Prop} {T x4 x6 x7 : Int32} {n k : Nat} (c r x6' x7' : Int32) (hT : vp_in T 16) (h4 : vp_in x4 32) (hk : x4.toNatClampNeg = k) (h12 : ¬ 12 ≤ x7) (hc : a1 k = c) (hb : bt_ok c)
    (hr : (((x4 &&& 7) + 1) &&& 7) + (8 * (x4 >>> ((3 : Int32) &&& 31))) = r) (h6 : x6 + 1 = x6') (h7 : x7 + 1 = x7')
    (h : ∀ b6 : Nat → Int32, ∀ Q : St2 → Prop, (∀ {zfc zfw zfe zfd zfh zfn zfl zfm zfv : Int32} {za1 za2 za3 za4 za5 za6 za7 za8 za9 za10 za11 za12 za13 za14 : Nat → Int32}, wX_follow_55 post T n r 0 x6' x7' zfc zfw zfe zfd zfh zfn zfl zfm zfv za1 za2 za3 za4 za5 za6 za7 za8 za9 za10 za11 za12 za13 za14 → Q (zfc, zfw, zfe, zfd, zfh, zfn, zfl, zfm, zfv, za1, za2, za3, za4, za5, za6, za7, za8, za9, za10, za11, za12, za13, za14)) → wpX_enter Q (fc, fw, fe, fd, fh, fn, fl, fm, fv, a1, a2, a3, a4, a5, b6, a7, a8, a9, a10, a11, a12, a13, a14) T c) : wX_follow_55 post T (n + 1) x4 0 x6 x7 fc fw fe fd fh fn fl fm fv a1 a2 a3 a4 a5 a6 a7 a8 a9 a10 a11 a12 a13 a14 := by
  subst hk
  have hb0 : ¬ a1 x4.toNatClampNeg = 22 ∧ ¬ a1 x4.toNatClampNeg = 23 ∧ ¬ a1 x4.toNatClampNeg = 25 ∧ ¬ a1 x4.toNatClampNeg = 26 ∧ ¬ a1 x4.toNatClampNeg = 29 := by
    rw [hc]
    exact hb.1
  refine br_f h12 ⟨h4, bt_br0 hb0 (br_t rfl ⟨h4, nm_r hc ⟨hT, hT, nm_e ?_⟩⟩)⟩
  exact br_c (fun _ => bt_126 hb.2.1 hr h6 h7 (h _)) (fun g => br_t (hb.2.2.resolve_left g) (bt_126 hb.2.1 hr h6 h7 (h _)))
/-- what must be done step by step: the trace ends -/
theorem bt_fe {post : St2 → Prop} {T x4 x5 x6 x7 : Int32} {n k t : Nat} (hT : T.toNatClampNeg = t) (hi : vp_in T 16) (h4 : vp_in x4 32) (hk : x4.toNatClampNeg = k) (h12 : ¬ 12 ≤ x7) (hc : a1 k = 25 ∨ a1 k = 29)
    (h : ∀ b6 : Nat → Int32, post (fc, fw, fe, fd, fh, fn, fl, fm, fv, a1, a2, a3, a4, a5, b6, upd a7 t x6, a8, a9, upd a10 t x4, upd a11 t x5, upd a12 t fm, a13, a14)) : wX_follow_55 post T (n + 1) x4 x5 x6 x7 fc fw fe fd fh fn fl fm fv a1 a2 a3 a4 a5 a6 a7 a8 a9 a10 a11 a12 a13 a14 := by
  subst hk hT
  exact br_f h12 ⟨h4, bt_br1 hc (br_f (by decide) ⟨hi, hi, nm_e ⟨hi, nm_e ⟨hi, nm_e ⟨hi, nm_e ⟨hi, nm_e (h _)⟩⟩⟩⟩⟩)⟩
theorem bt_fol {post : St2 → Prop} {T f : Int32} {t : Nat} (n : Nat) (hT : T.toNatClampNeg = t) (hi : vp_in T 16)
    (h : ∀ b6 : Nat → Int32, wX_follow_55 post T n f 0 0 0 fc fw fe fd fh fn fl 0 0 a1 a2 a3 a4 (upd a5 t (f + (32 * 0))) b6 a7 (upd a8 t 0) (upd a9 t 0) a10 a11 a12 a13 a14) : wpX_follow post (fc, fw, fe, fd, fh, fn, fl, fm, fv, a1, a2, a3, a4, a5, a6, a7, a8, a9, a10, a11, a12, a13, a14) T f 0 := by
  subst hT
  exact ⟨hi, nm_e ⟨hi, nm_e ⟨hi, nm_e ⟨hi, nm_e ⟨n, h _⟩⟩⟩⟩⟩
/-- the four operations -/
def bt_op (o : Int32) : Prop := o = 10 ∨ o = 11 ∨ o = 12 ∨ o = 13
theorem bt_opok {o : Int32} (h : bt_op o) : bt_ok o := by
  unfold bt_ok
  rcases h with rfl | rfl | rfl | rfl <;> decide
theorem bt_op2 {o : Int32} (h : bt_op o) : ¬ o < 1 ∧ 9 < o ∧ ¬ o < 10 ∧ ¬ 13 < o := by
  rcases h with rfl | rfl | rfl | rfl <;> decide
theorem bt_op40 {o : Int32} (h : bt_op o) : ¬ o = 40 ∧ ¬ o = 41 ∧ ¬ o = 42 := by
  rcases h with rfl | rfl | rfl | rfl <;> decide
theorem bt_ok28 : bt_ok 28 := by
  unfold bt_ok
  decide
theorem bt_ok14 : bt_ok 14 := by
  unfold bt_ok
  decide
theorem bt_ok1 : bt_ok 1 := by
  unfold bt_ok
  decide
/-- a trace that holds nothing -/
theorem bt_folE {post : St2 → Prop} {T f : Int32} {t k : Nat} (hT : T.toNatClampNeg = t) (hi : vp_in T 16) (h4 : vp_in f 32) (hk : f.toNatClampNeg = k) (hc : a1 k = 25 ∨ a1 k = 29)
    (h : ∀ (m l : Int32) (b5 b6 b7 b8 b9 b10 b11 b12 b13 b14 : Nat → Int32), (∀ j, j ≠ t → b5 j = a5 j) → b7 t = 0 → post (fc, fw, fe, fd, fh, fn, fl, m, l, a1, a2, a3, a4, b5, b6, b7, b8, b9, b10, b11, b12, b13, b14)) : wpX_follow post (fc, fw, fe, fd, fh, fn, fl, fm, fv, a1, a2, a3, a4, a5, a6, a7, a8, a9, a10, a11, a12, a13, a14) T f 0 :=
  bt_fol 1 hT hi (fun b6 => bt_fe hT hi h4 hk (by decide) hc (fun b6 => h _ _ _ _ _ _ _ _ _ _ _ _ (fun j hj => pk_un hj) pk_us))
/-- the trace of cell 0 -/
theorem bt_fol0 {post : St2 → Prop} {o : Int32} (ho : bt_op o) (g0 : a1 0 = 28) (g1 : a1 1 = 1) (g2 : a1 2 = 28) (g3 : a1 3 = o) (g4 : a1 4 = 14) (g5 : a1 5 = 25)
    (h : ∀ (m l : Int32) (b5 b6 b7 b8 b9 b10 b11 b12 b13 b14 : Nat → Int32), (∀ j, j ≠ 0 → b5 j = a5 j) → b7 0 = 5 → b8 0 = 1 → post (fc, fw, fe, fd, fh, fn, fl, m, l, a1, a2, a3, a4, b5, b6, b7, b8, b9, b10, b11, b12, b13, b14)) : wpX_follow post (fc, fw, fe, fd, fh, fn, fl, fm, fv, a1, a2, a3, a4, a5, a6, a7, a8, a9, a10, a11, a12, a13, a14) 0 0 0 := by
  have hT : vp_in 0 16 := pk_in 0 16 (by decide)
  have eT : (0 : Int32).toNatClampNeg = 0 := by decide
  refine bt_fol (t := 0) 6 eT hT (fun b6 => ?_)
  refine bt_fl (k := 0) 28 1 1 1 hT (pk_in 0 32 (by decide)) (by decide) (by decide) g0 bt_ok28 (by decide) (by decide) (by decide) (fun b6 Q hQ => ?_)
  refine bt_en28 (t := 0) (k := 0) (nd := 0) (rs := 0) 0 1 0 1 eT hT pk_us pk_us (by decide) (by decide) (by decide) (Or.inl (by decide)) (pk_in 0 256 (by decide)) (by decide) (by decide) (fun b8 b9 hn hr => hQ ?_)
  refine bt_fl (k := 1) 1 2 2 2 hT (pk_in 1 32 (by decide)) (by decide) (by decide) g1 bt_ok1 (by decide) (by decide) (by decide) (fun b6 Q hQ => ?_)
  refine bt_en1 (t := 0) (k := 1) 1 1 1 2 eT hT hn hr (by decide) (by decide) (by decide) (pk_in 1 256 (by decide)) (by decide) (by decide) (fun b8 b9 hn hr => hQ ?_)
  refine bt_fl (k := 2) 28 3 3 3 hT (pk_in 2 32 (by decide)) (by decide) (by decide) g2 bt_ok28 (by decide) (by decide) (by decide) (fun b6 Q hQ => ?_)
  refine bt_en28k (t := 0) (k := 1) 1 1 1 eT hT hn hr (by decide) (by decide) (by decide) (by decide) (pk_in 1 256 (by decide)) (by decide) pk_us (fun b8 b9 hn hr => hQ ?_)
  refine bt_fl (k := 3) o 4 4 4 hT (pk_in 3 32 (by decide)) (by decide) (by decide) g3 (bt_opok ho) (by decide) (by decide) (by decide) (fun b6 Q hQ => ?_)
  refine bt_en2 (t := 0) (k := 2) 0 1 1 3 (bt_op2 ho) eT hT hn hr (by decide) (by decide) (by decide) (Or.inr ⟨1, by decide, pk_in 1 256 (by decide), by decide, by rw [pk_us]; decide⟩) (pk_in 2 256 (by decide)) (by decide) (by decide) (fun b8 b9 hn hr => hQ ?_)
  refine bt_fl (k := 4) 14 5 5 5 hT (pk_in 4 32 (by decide)) (by decide) (by decide) g4 bt_ok14 (by decide) (by decide) (by decide) (fun b6 Q hQ => ?_)
  refine bt_en14 (t := 0) (k := 3) 1 1 1 4 eT hT hn hr (by decide) (by decide) (by decide) (Or.inr ⟨2, by decide, pk_in 2 256 (by decide), by decide, by rw [pk_us]; exact (bt_op40 ho).1⟩) (pk_in 3 256 (by decide)) (by decide) (by decide) (fun b8 b9 hn hr => hQ ?_)
  exact bt_fe (k := 5) eT hT (pk_in 5 32 (by decide)) (by decide) (by decide) (Or.inl g5) (fun b6 => h _ _ _ _ _ _ _ _ _ _ _ _ (fun j hj => pk_un hj) pk_us hn)
/-- the trace of cell 1 -/
theorem bt_fol1 {post : St2 → Prop} {o : Int32} (ho : bt_op o) (g1 : a1 1 = 1) (g2 : a1 2 = 28) (g3 : a1 3 = o) (g4 : a1 4 = 14) (g5 : a1 5 = 25)
    (h : ∀ (m l : Int32) (b5 b6 b7 b8 b9 b10 b11 b12 b13 b14 : Nat → Int32), (∀ j, j ≠ 1 → b5 j = a5 j) → b7 1 = 4 → b8 1 = 1 → b9 1 = 1 → b10 1 = 5 → b11 1 = 0 → b12 1 = 3 → b13 16 = 42 → b13 17 = o → b13 18 = 14 → b14 16 = 1 →
      post (fc, fw, fe, fd, fh, fn, fl, m, l, a1, a2, a3, a4, b5, b6, b7, b8, b9, b10, b11, b12, b13, b14)) : wpX_follow post (fc, fw, fe, fd, fh, fn, fl, fm, fv, a1, a2, a3, a4, a5, a6, a7, a8, a9, a10, a11, a12, a13, a14) 1 1 0 := by
  have hT : vp_in 1 16 := pk_in 1 16 (by decide)
  have eT : (1 : Int32).toNatClampNeg = 1 := by decide
  refine bt_fol (t := 1) 5 eT hT (fun b6 => ?_)
  refine bt_fl (k := 1) 1 2 1 1 hT (pk_in 1 32 (by decide)) (by decide) (by decide) g1 bt_ok1 (by decide) (by decide) (by decide) (fun b6 Q hQ => ?_)
  refine bt_en1 (t := 1) (k := 16) (nd := 0) (rs := 0) 1 0 1 1 eT hT pk_us pk_us (by decide) (by decide) (by decide) (pk_in 16 256 (by decide)) (by decide) (by decide) (fun b8 b9 hn hr => hQ ?_)
  refine bt_fl (k := 2) 28 3 2 2 hT (pk_in 2 32 (by decide)) (by decide) (by decide) g2 bt_ok28 (by decide) (by decide) (by decide) (fun b6 Q hQ => ?_)
  refine bt_en28k (t := 1) (k := 16) 1 0 1 eT hT hn hr (by decide) (by decide) (by decide) (by decide) (pk_in 16 256 (by decide)) (by decide) pk_us (fun b8 b9 hn hr => hQ ?_)
  refine bt_fl (k := 3) o 4 3 3 hT (pk_in 3 32 (by decide)) (by decide) (by decide) g3 (bt_opok ho) (by decide) (by decide) (by decide) (fun b6 Q hQ => ?_)
  refine bt_en2 (t := 1) (k := 17) 0 1 1 2 (bt_op2 ho) eT hT hn hr (by decide) (by decide) (by decide) (Or.inl (by decide)) (pk_in 17 256 (by decide)) (by decide) (by decide) (fun b8 b9 hn hr => hQ ?_)
  refine bt_fl (k := 4) 14 5 4 4 hT (pk_in 4 32 (by decide)) (by decide) (by decide) g4 bt_ok14 (by decide) (by decide) (by decide) (fun b6 Q hQ => ?_)
  refine bt_en14 (t := 1) (k := 18) 1 1 1 3 eT hT hn hr (by decide) (by decide) (by decide) (Or.inr ⟨17, by decide, pk_in 17 256 (by decide), by decide, by rw [pk_us]; exact (bt_op40 ho).1⟩) (pk_in 18 256 (by decide)) (by decide) (by decide) (fun b8 b9 hn hr => hQ ?_)
  refine bt_fe (k := 5) eT hT (pk_in 5 32 (by decide)) (by decide) (by decide) (Or.inl g5) (fun b6 => h _ _ _ _ _ _ _ _ _ _ _ _ (fun j hj => pk_un hj) pk_us hn hr pk_us pk_us pk_us ?_ ?_ pk_us ?_)
  · rw [pk_un (by decide), pk_un (by decide), pk_us]
  · rw [pk_un (by decide), pk_us]
  · rw [pk_un (by decide), pk_un (by decide), pk_us, pk_us]
    decide
end
end
section
/-! single steps, a trace that is run, and the run of the law's program -/
section
variable {fc fw fe fd fh fn fl fm fv : Int32} {a1 a2 a3 a4 a5 a6 a7 a8 a9 a10 a11 a12 a13 a14 : Nat → Int32}
/-- what an operation makes of two numbers -/
def bt_due (o a b : Int32) : Int32 := if o = 10 then a + b else if o = 11 then a - b else if o = 12 then a * b else if a ≤ b then 0 else 1
theorem bt_comb {post : Int32 → Prop} {c a b : Int32} (h : post (bt_due c a b)) : wpX_combined post (fc, fw, fe, fd, fh, fn, fl, fm, fv, a1, a2, a3, a4, a5, a6, a7, a8, a9, a10, a11, a12, a13, a14) c a b := by
  unfold bt_due at h
  refine br_c (fun e => ?_) (fun e => br_c (fun e1 => ?_) (fun e1 => br_c (fun e2 => ?_) (fun e2 => br_c (fun e3 => ?_) (fun e3 => ?_))))
  · rw [if_pos e] at h
    exact h
  · rw [if_neg e, if_pos e1] at h
    exact h
  · rw [if_neg e, if_neg e1, if_pos e2] at h
    exact h
  · rw [if_neg e, if_neg e1, if_neg e2, if_pos e3] at h
    exact h
  · rw [if_neg e, if_neg e1, if_neg e2, if_neg e3] at h
    exact h
theorem bt_pop {post : Int32 → St2 → Prop} {k : Nat} (f' : Int32) (h0 : ¬ fh = 0) (e : fh - 1 = f') (hi : vp_in f' 10) (hk : f'.toNatClampNeg = k) (h : post (a3 k) (fc, fw, fe, fd, f', fn, fl, fm, fv, a1, a2, a3, a4, a5, a6, a7, a8, a9, a10, a11, a12, a13, a14)) : wpX_pop post (fc, fw, fe, fd, fh, fn, fl, fm, fv, a1, a2, a3, a4, a5, a6, a7, a8, a9, a10, a11, a12, a13, a14) := by
  subst hk
  exact br_f h0 (nm_r e ⟨hi, h⟩)
theorem bt_push {post : St2 → Prop} {v : Int32} {k : Nat} (f' : Int32) (h0 : ¬ fh = 10) (e : fh + 1 = f') (hi : vp_in fh 10) (hk : fh.toNatClampNeg = k) (h : post (fc, fw, fe, fd, f', fn, fl, fm, fv, a1, a2, upd a3 k v, a4, a5, a6, a7, a8, a9, a10, a11, a12, a13, a14)) : wpX_push post (fc, fw, fe, fd, fh, fn, fl, fm, fv, a1, a2, a3, a4, a5, a6, a7, a8, a9, a10, a11, a12, a13, a14) v := by
  subst hk
  exact br_f h0 ⟨hi, nm_e (nm_r e h)⟩
theorem bt_wk2 {post : St2 → Prop} {o : Int32} (ho : bt_op o) (h : post (fc, fw, fe, fd, 1, fn, fl, fm, fv, a1, a2, upd a3 0 (bt_due o (a3 0) (a3 1)), a4, a5, a6, a7, a8, a9, a10, a11, a12, a13, a14)) : wpX_work post (fc, fw, fe, fd, 2, fn, fl, fm, fv, a1, a2, a3, a4, a5, a6, a7, a8, a9, a10, a11, a12, a13, a14) o := by
  unfold wpX_work
  exact bt_pop (k := 1) 1 (by decide) (by decide) (pk_in 1 10 (by decide)) (by decide) (br_f (bt_op2 ho).2.2.1 (br_f (bt_op2 ho).2.2.2 (bt_pop (k := 0) 0 (by decide) (by decide) (pk_in 0 10 (by decide)) (by decide)
    (bt_comb (bt_push (k := 0) 1 (by decide) (by decide) (pk_in 0 10 (by decide)) (by decide) h)))))
theorem bt_wk14 {post : St2 → Prop} (h : post (fc, fw, fe, fd, 2, fn, fl, fm, fv, a1, a2, upd (upd a3 0 (a3 0)) 1 (a3 0), a4, a5, a6, a7, a8, a9, a10, a11, a12, a13, a14)) : wpX_work post (fc, fw, fe, fd, 1, fn, fl, fm, fv, a1, a2, a3, a4, a5, a6, a7, a8, a9, a10, a11, a12, a13, a14) 14 := by
  unfold wpX_work
  exact bt_pop (k := 0) 0 (by decide) (by decide) (pk_in 0 10 (by decide)) (by decide) (br_f (by decide) (br_t (by decide) (br_t rfl (bt_push (k := 0) 1 (by decide) (by decide) (pk_in 0 10 (by decide)) (by decide)
    (bt_push (k := 1) 2 (by decide) (by decide) (pk_in 1 10 (by decide)) (by decide) h)))))
/-- the trace's end -/
theorem bt_rte {post : St2 → Prop} {T x2 ln st gc gw d' : Int32} {n t : Nat} (hT : T.toNatClampNeg = t) (hi : vp_in T 16) (h12 : a12 t = ln) (h7 : a7 t = st) (h10 : a10 t = gc) (h11 : a11 t = gw) (hx : ln ≤ x2) (hd : fd + st = d')
    (h : post (gc, gw, fe, d', fh, fn, fl, fm, fv, a1, a2, a3, a4, a5, a6, a7, a8, a9, a10, a11, a12, a13, a14)) : wX_runTrace_2 post T (n + 1) x2 fc fw fe fd fh fn fl fm fv a1 a2 a3 a4 a5 a6 a7 a8 a9 a10 a11 a12 a13 a14 := by
  subst hT h12 h7 h10 h11
  exact ⟨hi, br_t hx ⟨hi, nm_r hd ⟨hi, nm_e ⟨hi, nm_e h⟩⟩⟩⟩
/-- a given number of the trace -/
theorem bt_rtg {post : St2 → Prop} {T x2 ln q : Int32} {n t k i j : Nat} (x2' f' : Int32) (hT : T.toNatClampNeg = t) (hi : vp_in T 16) (h12 : a12 t = ln) (hx : ¬ ln ≤ x2) (ki : vp_in ((T * 16) + x2) 256) (hk : ((T * 16) + x2).toNatClampNeg = k) (h13 : a13 k = 42) (h14 : a14 k = q)
    (qi : vp_in q 4) (hq : q.toNatClampNeg = i) (he : x2 + 1 = x2') (h0 : ¬ fh = 10) (e : fh + 1 = f') (fi : vp_in fh 10) (hf : fh.toNatClampNeg = j)
    (h : wX_runTrace_2 post T n x2' fc fw fe fd f' fn fl fm fv a1 a2 (upd a3 j (a2 i)) a4 a5 a6 a7 a8 a9 a10 a11 a12 a13 a14) : wX_runTrace_2 post T (n + 1) x2 fc fw fe fd fh fn fl fm fv a1 a2 a3 a4 a5 a6 a7 a8 a9 a10 a11 a12 a13 a14 := by
  subst hT h12 hk
  subst hq
  exact ⟨hi, br_f hx ⟨ki, nm_r h13 ⟨ki, nm_r h14 (br_f (by decide) (br_f (by decide) (br_t rfl ⟨qi, bt_push f' h0 e fi hf (nm_r he h)⟩)))⟩⟩⟩
/-- an operation of the trace -/
theorem bt_rtw {post : St2 → Prop} {T x2 ln c : Int32} {n t k : Nat} (x2' : Int32) (hT : T.toNatClampNeg = t) (hi : vp_in T 16) (h12 : a12 t = ln) (hx : ¬ ln ≤ x2) (ki : vp_in ((T * 16) + x2) 256) (hk : ((T * 16) + x2).toNatClampNeg = k) (h13 : a13 k = c)
    (hc : ¬ c = 40 ∧ ¬ c = 41 ∧ ¬ c = 42) (he : x2 + 1 = x2')
    (h : ∀ Q : St2 → Prop, (∀ {zfc zfw zfe zfd zfh zfn zfl zfm zfv : Int32} {za1 za2 za3 za4 za5 za6 za7 za8 za9 za10 za11 za12 za13 za14 : Nat → Int32}, wX_runTrace_2 post T n x2' zfc zfw zfe zfd zfh zfn zfl zfm zfv za1 za2 za3 za4 za5 za6 za7 za8 za9 za10 za11 za12 za13 za14 → Q (zfc, zfw, zfe, zfd, zfh, zfn, zfl, zfm, zfv, za1, za2, za3, za4, za5, za6, za7, za8, za9, za10, za11, za12, za13, za14)) → wpX_work Q (fc, fw, fe, fd, fh, fn, fl, fm, fv, a1, a2, a3, a4, a5, a6, a7, a8, a9, a10, a11, a12, a13, a14) c) : wX_runTrace_2 post T (n + 1) x2 fc fw fe fd fh fn fl fm fv a1 a2 a3 a4 a5 a6 a7 a8 a9 a10 a11 a12 a13 a14 := by
  subst hT h12 hk
  exact ⟨hi, br_f hx ⟨ki, nm_r h13 ⟨ki, nm_e (br_f hc.1 (br_f hc.2.1 (br_f hc.2.2 (h _ (fun hh => nm_r he hh)))))⟩⟩⟩
/-- the trace of cell 1 is run -/
theorem bt_rt {post : St2 → Prop} {o v w d' : Int32} (ho : bt_op o) (i1 : a2 1 = w) (p0 : a3 0 = v) (k7 : a7 1 = 4) (k10 : a10 1 = 5) (k11 : a11 1 = 0) (k12 : a12 1 = 3) (k16 : a13 16 = 42) (k17 : a13 17 = o) (k18 : a13 18 = 14) (v16 : a14 16 = 1) (hd : fd + 4 = d')
    (h : ∀ b3 : Nat → Int32, b3 0 = bt_due o v w → b3 1 = bt_due o v w → post (5, 0, fe, d', 2, fn, fl, fm, fv, a1, a2, b3, a4, a5, a6, a7, a8, a9, a10, a11, a12, a13, a14)) : wpX_runTrace post (fc, fw, fe, fd, 1, fn, fl, fm, fv, a1, a2, a3, a4, a5, a6, a7, a8, a9, a10, a11, a12, a13, a14) 1 := by
  have hT : vp_in 1 16 := pk_in 1 16 (by decide)
  have eT : (1 : Int32).toNatClampNeg = 1 := by decide
  refine ⟨4, ?_⟩
  refine bt_rtg (k := 16) (i := 1) (j := 1) 1 2 eT hT k12 (by decide) (pk_in 16 256 (by decide)) (by decide) k16 v16 (pk_in 1 4 (by decide)) (by decide) (by decide) (by decide) (by decide) (pk_in 1 10 (by decide)) (by decide) ?_
  refine bt_rtw (k := 17) 2 eT hT k12 (by decide) (pk_in 17 256 (by decide)) (by decide) k17 (bt_op40 ho) (by decide) (fun Q hQ => bt_wk2 ho (hQ ?_))
  refine bt_rtw (k := 18) 3 eT hT k12 (by decide) (pk_in 18 256 (by decide)) (by decide) k18 (by decide) (by decide) (fun Q hQ => bt_wk14 (hQ ?_))
  refine bt_rte eT hT k12 k7 k10 k11 (by decide) hd (h _ ?_ ?_)
  · rw [pk_un (by decide), pk_us, pk_us, pk_us, pk_un (by decide), p0, i1]
  · rw [pk_us, pk_us, pk_us, pk_un (by decide), p0, i1]
/-- can the trace be run? -/
theorem bt_rnA {post : Int32 → Prop} {T : Int32} {t : Nat} (hT : T.toNatClampNeg = t) (hi : vp_in T 16) (h7 : a7 t = 0) (h : post 0) : wpX_runnable post (fc, fw, fe, fd, fh, fn, fl, fm, fv, a1, a2, a3, a4, a5, a6, a7, a8, a9, a10, a11, a12, a13, a14) T := by
  subst hT
  exact ⟨hi, br_t (by rw [h7]; decide) h⟩
theorem bt_rnB {post : Int32 → Prop} {T st nd : Int32} {t : Nat} (hT : T.toNatClampNeg = t) (hi : vp_in T 16) (h7 : a7 t = st) (h8 : a8 t = nd) (hs : ¬ st ≤ 0) (hh : fh < nd) (h : post 0) : wpX_runnable post (fc, fw, fe, fd, fh, fn, fl, fm, fv, a1, a2, a3, a4, a5, a6, a7, a8, a9, a10, a11, a12, a13, a14) T := by
  subst hT h7 h8
  exact ⟨hi, br_f hs ⟨hi, br_t hh h⟩⟩
theorem bt_rnC {post : Int32 → Prop} {T st nd rs : Int32} {t : Nat} (hT : T.toNatClampNeg = t) (hi : vp_in T 16) (h7 : a7 t = st) (h8 : a8 t = nd) (h9 : a9 t = rs) (hs : ¬ st ≤ 0) (hh : ¬ fh < nd) (h10 : ¬ 10 < fh + rs) (h400 : ¬ 400 < fd + st) (h : post 1) : wpX_runnable post (fc, fw, fe, fd, fh, fn, fl, fm, fv, a1, a2, a3, a4, a5, a6, a7, a8, a9, a10, a11, a12, a13, a14) T := by
  subst hT h7 h8 h9
  exact ⟨hi, br_f hs ⟨hi, br_f hh ⟨hi, br_f h10 ⟨hi, br_f h400 h⟩⟩⟩⟩
/-- the first step: a given number, its place off an empty pile -/
theorem bt_s28 {post : St2 → Prop} {d' : Int32} (g0 : a1 0 = 28) (hd : fd + 1 = d') (h : post (1, 0, 0, d', 1, fn, fl, fm, fv, a1, a2, upd a3 0 (a2 0), a4, a5, a6, a7, a8, a9, a10, a11, a12, a13, a14)) : wpX_step post (0, 0, 0, fd, 0, fn, fl, fm, fv, a1, a2, a3, a4, a5, a6, a7, a8, a9, a10, a11, a12, a13, a14) := by
  refine ⟨pk_in 0 32 (by decide), nm_r (e' := 28) g0 (nm_r hd (br_f (by decide) (br_t (by decide) (br_f (by decide) (br_f (by decide) (br_f (by decide) (br_t rfl ?_)))))))⟩
  refine br_t rfl (br_f (by decide) (br_t (by decide) (br_f (by decide) (br_f (by decide) (br_f (by decide) (br_f (by decide) (br_t rfl ⟨pk_in 0 4 (by decide), ?_⟩)))))))
  exact bt_push (k := 0) 1 (by decide) (by decide) (pk_in 0 10 (by decide)) (by decide) (br_t rfl (bt_mv0 (r := 1) (by decide) h))
/-- the output -/
theorem bt_s25 {post : St2 → Prop} {d' : Int32} (g5 : a1 5 = 25) (hd : fd + 1 = d') (h : post (6, 0, 0, d', 1, 1, fl, fm, fv, a1, a2, a3, upd a4 0 (a3 1), a5, a6, a7, a8, a9, a10, a11, a12, a13, a14)) : wpX_step post (5, 0, 0, fd, 2, 0, fl, fm, fv, a1, a2, a3, a4, a5, a6, a7, a8, a9, a10, a11, a12, a13, a14) := by
  refine ⟨pk_in 5 32 (by decide), nm_r (e' := 25) g5 (nm_r hd (br_f (by decide) (br_t (by decide) (br_f (by decide) (br_f (by decide) (br_f (by decide) (br_f (by decide) (br_f (by decide) (br_t (by decide) ?_)))))))))⟩
  refine br_f (by decide) (br_f (by decide) (br_f (by decide) (br_t rfl ?_)))
  refine bt_pop (k := 1) 1 (by decide) (by decide) (pk_in 1 10 (by decide)) (by decide) ?_
  exact br_f (by decide) ⟨pk_in 0 16 (by decide), nm_e (nm_r (e' := 1) (by decide) (br_t rfl (bt_mv0 (r := 6) (by decide) h)))⟩
/-- the end -/
theorem bt_s29 {post : St2 → Prop} {d' : Int32} (g6 : a1 6 = 29) (hd : fd + 1 = d') (h : post (6, fw, 1, d', fh, fn, fl, fm, fv, a1, a2, a3, a4, a5, a6, a7, a8, a9, a10, a11, a12, a13, a14)) : wpX_step post (6, fw, 0, fd, fh, fn, fl, fm, fv, a1, a2, a3, a4, a5, a6, a7, a8, a9, a10, a11, a12, a13, a14) := by
  refine ⟨pk_in 6 32 (by decide), nm_r (e' := 29) g6 (nm_r hd (br_f (by decide) (br_t (by decide) (br_f (by decide) (br_f (by decide) (br_f (by decide) (br_f (by decide) (br_f (by decide) (br_t (by decide) ?_)))))))))⟩
  exact br_f (by decide) (br_f (by decide) (br_f (by decide) (br_f (by decide) (br_f (by decide) (br_t rfl (br_f (by decide) h))))))
/-- the run of the law's program -/
theorem bt_run {post : Int32 → St2 → Prop} {o v w : Int32} (ho : bt_op o) (g0 : a1 0 = 28) (g1 : a1 1 = 1) (g2 : a1 2 = 28) (g3 : a1 3 = o) (g4 : a1 4 = 14) (g5 : a1 5 = 25) (g6 : a1 6 = 29) (i0 : a2 0 = v) (i1 : a2 1 = w) (hk : ∀ j, j < 16 → a5 j = -1)
    (h : ∀ (m l : Int32) (b3 b4 b5 b6 b7 b8 b9 b10 b11 b12 b13 b14 : Nat → Int32), b3 0 = bt_due o v w → b4 0 = bt_due o v w → post 1 (6, 0, 1, 7, 1, 1, 1, m, l, a1, a2, b3, b4, b5, b6, b7, b8, b9, b10, b11, b12, b13, b14)) : wpX_run post (fc, fw, fe, fd, fh, fn, fl, fm, fv, a1, a2, a3, a4, a5, a6, a7, a8, a9, a10, a11, a12, a13, a14) := by
  have e0 : (0 : Int32).toNatClampNeg = 0 := by decide
  have e1 : (1 : Int32).toNatClampNeg = 1 := by decide
  have e5 : (5 : Int32).toNatClampNeg = 5 := by decide
  have e6 : (6 : Int32).toNatClampNeg = 6 := by decide
  have t0 : vp_in 0 16 := pk_in 0 16 (by decide)
  have t1 : vp_in 1 16 := pk_in 1 16 (by decide)
  have t5 : vp_in 5 16 := pk_in 5 16 (by decide)
  have t6 : vp_in 6 16 := pk_in 6 16 (by decide)
  refine ⟨5, ?_⟩
  refine br_f (by decide) (br_t rfl (br_f (by decide) (nm_e (nm_r (e' := 0) (by decide) ⟨t0, br_f (by rw [e0, hk 0 (by decide)]; decide) ?_⟩))))
  refine bt_fol0 ho g0 g1 g2 g3 g4 g5 (fun m l b5 b6 b7 b8 b9 b10 b11 b12 b13 b14 q5 q7 q8 => ?_)
  refine bt_rnB e0 t0 q7 q8 (by decide) (by decide) (br_t rfl (bt_s28 (d' := 1) g0 (by decide) (nm_r (e' := 1) (by decide) ?_)))
  refine br_f (by decide) (br_t rfl (br_f (by decide) (nm_e (nm_r (e' := 1) (by decide) ⟨t1, br_f (by rw [e1, q5 1 (by decide), hk 1 (by decide)]; decide) ?_⟩))))
  refine bt_fol1 ho g1 g2 g3 g4 g5 (fun m l c5 c6 c7 c8 c9 c10 c11 c12 c13 c14 r5 r7 r8 r9 r10 r11 r12 r16 r17 r18 rv => ?_)
  refine bt_rnC e1 t1 r7 r8 r9 (by decide) (by decide) (by decide) (by decide) (br_f (by decide) (bt_rt (v := v) (w := w) (d' := 5) ho i1 (pk_us.trans i0) r7 r10 r11 r12 r16 r17 r18 rv (by decide) (fun b3 x0 x1 => nm_r (e' := 2) (by decide) ?_)))
  refine br_f (by decide) (br_t rfl (br_f (by decide) (nm_e (nm_r (e' := 5) (by decide) ⟨t5, br_f (by rw [e5, r5 5 (by decide), q5 5 (by decide), hk 5 (by decide)]; decide) ?_⟩))))
  refine bt_folE (t := 5) (k := 5) e5 t5 (pk_in 5 32 (by decide)) e5 (Or.inl g5) (fun m l d5 d6 d7 d8 d9 d10 d11 d12 d13 d14 s5 s7 => ?_)
  refine bt_rnA e5 t5 s7 (br_t rfl (bt_s25 (d' := 6) g5 (by decide) (nm_r (e' := 3) (by decide) ?_)))
  refine br_f (by decide) (br_t rfl (br_f (by decide) (nm_e (nm_r (e' := 6) (by decide) ⟨t6, br_f (by rw [e6, s5 6 (by decide), r5 6 (by decide), q5 6 (by decide), hk 6 (by decide)]; decide) ?_⟩))))
  refine bt_folE (t := 6) (k := 6) e6 t6 (pk_in 6 32 (by decide)) e6 (Or.inr g6) (fun m l f5 f6 f7 f8 f9 f10 f11 f12 f13 f14 u5 u7 => ?_)
  refine bt_rnA e6 t6 u7 (br_t rfl (bt_s29 (d' := 7) g6 (by decide) (nm_r (e' := 4) (by decide) ?_)))
  exact br_f (by decide) (br_f (by decide) (h _ _ _ _ _ _ _ _ _ _ _ _ _ _ x0 (pk_us.trans x1)))
end
end
section
/-! the law -/
section
theorem bt_init {fc fw fe fd fh fn fl fm fv : Int32} {post : St2 → Prop} {mc ms : Nat} (hc : 14 ≤ mc) (hs : 702 ≤ ms) (h : ∀ b5 : Nat → Int32, (∀ j, j < 16 → b5 j = -1) → post (fc, fw, fe, fd, fh, fn, fl, fm, fv, (fun _ => 0), (fun _ => 0), (fun _ => 0), (fun _ => 0), b5, (fun _ => 0), (fun _ => 0), (fun _ => 0), (fun _ => 0), (fun _ => 0), (fun _ => 0), (fun _ => 0), (fun _ => 0), (fun _ => 0))) :
    wpX_init post mc ms (fc, fw, fe, fd, fh, fn, fl, fm, fv) :=
  ⟨by omega, by omega, by omega, by omega, by omega, by omega, by omega, by omega, by omega, by omega, by omega, by omega, by omega, by omega, by omega, by omega, by omega, by omega, by omega, by omega, by omega, by omega, by omega, by omega, by omega, by omega, by omega, by omega, bt_drop h⟩
theorem bt_148 {post : Int32 → St0 → Prop} {mc ms kc ks : Nat} {x5 x6 x7 x8 x9 z : Int32} (h5 : x5 = 1) (h6 : x6 = 7) (h7 : x7 = z) (h8 : x8 = z) (h9 : x9 = 6) (h : post 1 ()) : wL_lawOf_148 post mc ms x5 x6 x7 x8 x9 z kc ks :=
  br_t h5 (br_t h6 (br_t h7 (br_t h8 (br_t h9 h))))
theorem bt_kind (q : Int32) : bt_op (10 + (q &&& 3)) := by
  obtain ⟨j, hj, e⟩ := pk_andE q (m := 3) 2 (by decide)
  rw [e]
  have hj4 : j < 4 := hj
  unfold bt_op
  match j, hj4 with
  | 0, _ => decide
  | 1, _ => decide
  | 2, _ => decide
  | 3, _ => decide
theorem bt_pack {o : Int32} (ho : bt_op o) : (¬ (o + 448) + 25600 < 0 ∧ (o + 448) + 25600 ≤ 32767) ∧ (((o + 448) + 25600) >>> ((5 * (0 : Int32)) &&& 31)) &&& 31 = o ∧ (((o + 448) + 25600) >>> ((5 * (1 : Int32)) &&& 31)) &&& 31 = 14 ∧ (((o + 448) + 25600) >>> ((5 * (2 : Int32)) &&& 31)) &&& 31 = 25 := by
  rcases ho with rfl | rfl | rfl | rfl <;> decide
theorem bt_lawOf {post : Int32 → St0 → Prop} {mc ms : Nat} (hmc : 15 ≤ mc) (hms : 725 ≤ ms) (v w q : Int32) (h : post 1 ()) : wpL_lawOf post mc ms () v w q := by
  refine ⟨by omega, by omega, 14, 702, by omega, by omega, ?_⟩
  refine bt_init (Nat.le_refl _) (Nat.le_refl _) (fun b5 hk => ?_)
  obtain ⟨o, ho, eo⟩ : ∃ o, bt_op o ∧ 10 + (q &&& 3) = o := ⟨_, bt_kind q, rfl⟩
  refine nm_r eo ?_
  refine bt_input (k := 0) (by decide) (by decide) (pk_in 0 4 (by decide)) (by decide) ?_
  refine bt_input (k := 1) (by decide) (by decide) (pk_in 1 4 (by decide)) (by decide) ?_
  refine bt_put3 (v0 := 28) (v1 := 1) (v2 := 28) (k0 := 0) (k1 := 1) (k2 := 2) (by decide) (by decide) (by decide) (by decide) (by decide) (by decide) (pk_in 0 32 (by decide)) (pk_in 1 32 (by decide)) (pk_in 2 32 (by decide)) (by decide) (by decide) (by decide) (by decide) (by decide) (by decide) hk ?_
  refine bt_put3 (v0 := o) (v1 := 14) (v2 := 25) (k0 := 3) (k1 := 4) (k2 := 5) (by decide) (by decide) (by decide) (by decide) (bt_pack ho).1.1 (bt_pack ho).1.2 (pk_in 3 32 (by decide)) (pk_in 4 32 (by decide)) (pk_in 5 32 (by decide)) (by decide) (by decide) (by decide) (bt_pack ho).2.1 (bt_pack ho).2.2.1 (bt_pack ho).2.2.2 hk ?_
  refine bt_put (k := 6) (by decide) (by decide) (by decide) (by decide) (by decide) (by decide) (pk_in 6 32 (by decide)) (by decide) hk (fun r => ?_)
  refine bt_run (o := o) (v := v) (w := w) ho ?_ ?_ ?_ ?_ ?_ ?_ pk_us ?_ pk_us hk (fun m l b3 b4 b5 b6 b7 b8 b9 b10 b11 b12 b13 b14 x0 y0 => ?_)
  · rw [pk_un (by decide), pk_un (by decide), pk_un (by decide), pk_un (by decide), pk_un (by decide), pk_un (by decide), pk_us]
  · rw [pk_un (by decide), pk_un (by decide), pk_un (by decide), pk_un (by decide), pk_un (by decide), pk_us]
  · rw [pk_un (by decide), pk_un (by decide), pk_un (by decide), pk_un (by decide), pk_us]
  · rw [pk_un (by decide), pk_un (by decide), pk_un (by decide), pk_us]
  · rw [pk_un (by decide), pk_un (by decide), pk_us]
  · rw [pk_un (by decide), pk_us]
  · rw [pk_un (by decide), pk_us]
  · have e0 : (0 : Int32).toNatClampNeg = 0 := by decide
    refine br_f (by decide) (br_t (by decide) ⟨pk_in 0 10 (by decide), br_f (by decide) (br_t (by decide) ⟨pk_in 0 16 (by decide), ?_⟩)⟩)
    rw [← e0] at x0 y0
    unfold bt_due at x0 y0
    refine br_c (fun e => bt_148 rfl rfl ?_ ?_ (by decide) h) (fun e => br_c (fun e1 => bt_148 rfl rfl ?_ ?_ (by decide) h) (fun e1 => br_c (fun e2 => bt_148 rfl rfl ?_ ?_ (by decide) h) (fun e2 => br_c (fun e3 => bt_148 rfl rfl ?_ ?_ (by decide) h) (fun e3 => bt_148 rfl rfl ?_ ?_ (by decide) h))))
    · rw [x0, if_pos e]
    · rw [y0, if_pos e]
    · rw [x0, if_neg e, if_pos e1]
    · rw [y0, if_neg e, if_pos e1]
    · rw [x0, if_neg e, if_neg e1, if_pos e2]
    · rw [y0, if_neg e, if_neg e1, if_pos e2]
    · rw [x0, if_neg e, if_neg e1, if_neg e2, if_pos e3]
    · rw [y0, if_neg e, if_neg e1, if_neg e2, if_pos e3]
    · rw [x0, if_neg e, if_neg e1, if_neg e2, if_neg e3]
    · rw [y0, if_neg e, if_neg e1, if_neg e2, if_neg e3]
theorem bt_cell {post : Int32 → Prop} {L : Nat} {xs : Nat → Int32} {i : Nat} (hL : L ≤ 3) (hi : i < 3) (h : ∀ x, post x) : wpL_cellAt post L xs () (nI i) :=
  pk_le L i (fun _ => h _) (fun z => ⟨pk_in i L z, h _⟩)
theorem i_vc (xs : Nat → Int32) (L : Nat) (hL : L ≤ 3) : wpL_law (fun r => r = 1) L xs :=
  bt_cell (i := 0) hL (by decide) (fun v => bt_cell (i := 1) hL (by decide) (fun w => bt_cell (i := 2) hL (by decide) (fun q => ⟨15, 725, by omega, by omega, bt_lawOf (Nat.le_refl _) (Nat.le_refl _) v w q rfl⟩)))
end
end
