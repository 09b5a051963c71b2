section
/-! ===== the law's values: four times the number and the sort ===== -/
/-- v is how the law keeps the value of sort s and number n -/
def mr_val (v : Int64) (s n : Int32) : Prop := (s = 1 ∧ v = 4 * n.toInt64 + 1) ∨ (s = 0 ∧ n = 0 ∧ v = 0)
theorem mr_toI (n : Int32) : (4 * n.toInt64 + 1 : Int64).toInt = 4 * n.toInt + 1 := by
  have h1 := n.toInt_lt
  have h2 := n.le_toInt
  rw [Int64.toInt_add, Int64.toInt_mul, Int32.toInt_toInt64, show (4 : Int64).toInt = 4 from by decide, show (1 : Int64).toInt = 1 from by decide]
  rw [Int.bmod_eq_of_le (n := 4 * n.toInt) (by omega) (by omega)]
  exact Int.bmod_eq_of_le (by omega) (by omega)
theorem mr_inj {n m : Int32} (h : (4 * n.toInt64 + 1 : Int64) = 4 * m.toInt64 + 1) : n = m := by
  have e := congrArg Int64.toInt h
  rw [mr_toI, mr_toI] at e
  exact Int32.toInt_inj.mp (by omega)
theorem mr_ne0 (n : Int32) : ¬ (4 * n.toInt64 + 1 : Int64) = 0 := by
  intro h
  have e := congrArg Int64.toInt h
  rw [mr_toI, show (0 : Int64).toInt = 0 from by decide] at e
  omega
theorem mr_nat (X : Int64) : (4 * X + 1 : Int64).toBitVec.toNat % 4 = 1 := by
  rw [Int64.toBitVec_add, Int64.toBitVec_mul, BitVec.toNat_add, BitVec.toNat_mul, show (4 : Int64).toBitVec.toNat = 4 from by decide, show (1 : Int64).toBitVec.toNat = 1 from by decide]
  omega
theorem mr_a3 (X : Int64) : (4 * X + 1 : Int64) &&& 3 = 1 := by
  apply Int64.toBitVec_inj.mp
  apply BitVec.eq_of_toNat_eq
  rw [Int64.toBitVec_and, BitVec.toNat_and, show (3 : Int64).toBitVec.toNat = 2 ^ 2 - 1 from by decide, Nat.and_two_pow_sub_one_eq_mod, show (1 : Int64).toBitVec.toNat = 1 from by decide]
  exact mr_nat X
theorem mr_a1 (X : Int64) : (4 * X + 1 : Int64) &&& 1 = 1 := by
  apply Int64.toBitVec_inj.mp
  apply BitVec.eq_of_toNat_eq
  rw [Int64.toBitVec_and, BitVec.toNat_and, show (1 : Int64).toBitVec.toNat = 2 ^ 1 - 1 from by decide, Nat.and_two_pow_sub_one_eq_mod]
  have := mr_nat X
  omega
theorem mr_sh (n : Int32) : ((4 * n.toInt64 + 1 : Int64) >>> ((2 : Int32).toInt64 &&& 63)).toInt32 = n := by
  have e : ((4 * n.toInt64 + 1 : Int64) >>> ((2 : Int32).toInt64 &&& 63)) = n.toInt64 := by
    apply Int64.toInt_inj.mp
    have h : ((4 * n.toInt64 + 1 : Int64) >>> ((2 : Int32).toInt64 &&& 63)).toInt = (4 * n.toInt64 + 1 : Int64).toInt >>> 2 := by
      show ((4 * n.toInt64 + 1 : Int64).toBitVec.sshiftRight (((2 : Int32).toInt64 &&& 63).toBitVec.smod 64).toNat).toInt = _
      rw [show (((2 : Int32).toInt64 &&& 63).toBitVec.smod 64).toNat = 2 from by decide, BitVec.toInt_sshiftRight]
      rfl
    rw [h, mr_toI, Int32.toInt_toInt64, Int.shiftRight_eq_div_pow]
    omega
  rw [e]
  simp
theorem mr_vs {v : Int64} {s n : Int32} (h : mr_val v s n) : (v &&& 3).toInt32 = s := by
  rcases h with ⟨rfl, rfl⟩ | ⟨rfl, rfl, rfl⟩
  · rw [mr_a3]; decide
  · decide
theorem mr_vn {v : Int64} {s n : Int32} (h : mr_val v s n) : (v >>> ((2 : Int32).toInt64 &&& 63)).toInt32 = n := by
  rcases h with ⟨rfl, rfl⟩ | ⟨rfl, rfl, rfl⟩
  · exact mr_sh n
  · decide
theorem mr_v3 {v : Int64} {s n : Int32} (h : mr_val v s n) : (v &&& 3) = 1 ↔ s = 1 := by
  rcases h with ⟨rfl, rfl⟩ | ⟨rfl, rfl, rfl⟩
  · rw [mr_a3]; decide
  · decide
theorem mr_v2 {v : Int64} {s n : Int32} (h : mr_val v s n) : ¬ s = 2 := by
  rcases h with ⟨rfl, rfl⟩ | ⟨rfl, rfl, rfl⟩ <;> decide
theorem mr_vb {v : Int64} {s n : Int32} (h : mr_val v s n) : s.toInt8.toInt32 = s := by
  rcases h with ⟨rfl, rfl⟩ | ⟨rfl, rfl, rfl⟩ <;> decide
theorem mr_vand {v w : Int64} {s n t m : Int32} (h : mr_val v s n) (g : mr_val w t m) : ((v &&& w) &&& 1) = 0 ↔ ¬ (s = 1 ∧ t = 1) := by
  rcases h with ⟨rfl, rfl⟩ | ⟨rfl, rfl, rfl⟩
  · rcases g with ⟨rfl, rfl⟩ | ⟨rfl, rfl, rfl⟩
    · rw [Int64.and_assoc, mr_a1, mr_a1]; decide
    · rw [Int64.and_zero]; decide
  · rw [Int64.zero_and]
    exact ⟨fun _ h => absurd h.1 (by decide), fun _ => by decide⟩
theorem mr_veq {v w : Int64} {s n t m : Int32} (h : mr_val v s n) (g : mr_val w t m) : v = w ↔ s = t ∧ n = m := by
  rcases h with ⟨rfl, rfl⟩ | ⟨rfl, rfl, rfl⟩
  · rcases g with ⟨rfl, rfl⟩ | ⟨rfl, rfl, rfl⟩
    · exact ⟨fun e => ⟨rfl, mr_inj e⟩, fun e => by rw [e.2]⟩
    · exact ⟨fun e => absurd e (mr_ne0 n), fun e => absurd e.1 (by decide)⟩
  · rcases g with ⟨rfl, rfl⟩ | ⟨rfl, rfl, rfl⟩
    · exact ⟨fun e => absurd e.symm (mr_ne0 m), fun e => absurd e.1 (by decide)⟩
    · exact ⟨fun _ => ⟨rfl, rfl⟩, fun _ => rfl⟩
theorem mr_vi (n : Int32) : mr_val (4 * n.toInt64 + 1) 1 n := Or.inl ⟨rfl, rfl⟩
theorem mr_v0 : mr_val 0 0 0 := Or.inr ⟨rfl, rfl, rfl⟩
/-- the law's pick -/
def mr_pk (g : Nat) (a b c d : Int64) : Int64 := if g = 0 then a else if g = 1 then b else if g = 2 then c else d
theorem mr_four {g : Nat} (h : g < 4) : g = 0 ∨ g = 1 ∨ g = 2 ∨ g = 3 := by omega
theorem mr_pick {post : Int64 → Prop} {g : Nat} (hg : g < 4) {a b c d : Int64} (hp : post (mr_pk g a b c d)) : wpL_pick post () (nI g) a b c d := by
  rcases mr_four hg with rfl | rfl | rfl | rfl
  · exact br_t rfl hp
  · exact br_f (by decide) (br_t rfl hp)
  · exact br_f (by decide) (br_f (by decide) (br_t rfl hp))
  · exact br_f (by decide) (br_f (by decide) (br_f (by decide) hp))
/-! ===== small ints ===== -/
theorem mr_sub0 : (1 - 1 : Int32) = 0 := by decide
theorem mr_b8 : ∀ n, n < 128 → (nI n).toInt8.toInt32 = nI n := by decide +kernel
theorem mr_cl {f : Nat → Int32} {k : Nat} {v : Int32} (hk : k < 2 ^ 31) (h : f k = v) : f (nI k).toNatClampNeg = v := by rw [nI_clamp hk]; exact h
theorem mr_c0 {f : Nat → Int32} {v : Int32} (h : f 0 = v) : f (0 : Int32).toNatClampNeg = v := by rw [sb_cl0]; exact h
theorem mr_u0 {f : Nat → Int32} {v w : Int32} (h : v = w) : upd f (0 : Int32).toNatClampNeg v = upd f 0 w := by rw [sb_cl0, h]
theorem mr_uk {f : Nat → Int32} {k : Nat} {x v w : Int32} (hx : x = nI k) (hk : k < 2 ^ 31) (h : v = w) : upd f x.toNatClampNeg v = upd f k w := by rw [hx, nI_clamp hk, h]
theorem mr_m6 (d : Nat) : (6 * 0 + nI d : Int32) = nI d := by
  rw [show (6 * 0 : Int32) = nI 0 from by decide, nI_add, Nat.zero_add]
theorem mr_m4 (d : Nat) : (4 * 0 + nI d : Int32) = nI d := by
  rw [show (4 * 0 : Int32) = nI 0 from by decide, nI_add, Nat.zero_add]
theorem mr_m3 (a b : Nat) : (3 * nI a + nI b : Int32) = nI (3 * a + b) := by
  rw [show (3 : Int32) = nI 3 from by decide, pk_mul, nI_add]
section
variable {pr lv fc ou yu rm mks sc md rs rn pc wc : Int32} {a1 a2 a3 a4 a5 a6 a7 a8 a9 a10 a11 a12 a13 a14 a15 a16 a17 a18 a19 a20 a21 a22 : Nat → Int32}
/-! ===== the stack of frame 0 ===== -/
theorem mr_top {P : Int32 → Prop} (h : P 0) : wpX_top P (pr, lv, 1, ou, yu, rm, mks, sc, md, rs, rn, pc, wc, a1, a2, a3, a4, a5, a6, a7, a8, a9, a10, a11, a12, a13, a14, a15, a16, a17, a18, a19, a20, a21, a22) := by
  show P (1 - 1)
  rw [mr_sub0]
  exact h
theorem mr_ft0 {post : Int32 → Prop} {d : Nat} (hd : a14 0 = nI (d + 1)) (hp : post (nI d)) : wpX_fromTop post (pr, lv, 1, ou, yu, rm, mks, sc, md, rs, rn, pc, wc, a1, a2, a3, a4, a5, a6, a7, a8, a9, a10, a11, a12, a13, a14, a15, a16, a17, a18, a19, a20, a21, a22) 0 := by
  unfold wpX_fromTop
  refine mr_top ⟨pk_in 0 10 (by decide), ?_⟩
  rw [sb_cl0, hd, mr_m6, nI_pred, Int32.sub_zero]
  exact hp
theorem mr_ft1 {post : Int32 → Prop} {d : Nat} (hd : a14 0 = nI (d + 2)) (hp : post (nI d)) : wpX_fromTop post (pr, lv, 1, ou, yu, rm, mks, sc, md, rs, rn, pc, wc, a1, a2, a3, a4, a5, a6, a7, a8, a9, a10, a11, a12, a13, a14, a15, a16, a17, a18, a19, a20, a21, a22) 1 := by
  unfold wpX_fromTop
  refine mr_top ⟨pk_in 0 10 (by decide), ?_⟩
  rw [sb_cl0, hd, mr_m6, nI_pred, nI_pred]
  exact hp
theorem mr_sa0 {post : Int32 → Prop} {d : Nat} {s : Int32} (hd : a14 0 = nI (d + 1)) (h6 : d < 6) (hs : a15 d = s) (hp : post s) : wpX_sortAt post (pr, lv, 1, ou, yu, rm, mks, sc, md, rs, rn, pc, wc, a1, a2, a3, a4, a5, a6, a7, a8, a9, a10, a11, a12, a13, a14, a15, a16, a17, a18, a19, a20, a21, a22) 0 := by
  unfold wpX_sortAt
  refine mr_ft0 hd ⟨pk_in d 60 (by omega), ?_⟩
  rw [nI_clamp (by omega), hs]
  exact hp
theorem mr_sa1 {post : Int32 → Prop} {d : Nat} {s : Int32} (hd : a14 0 = nI (d + 2)) (h6 : d < 6) (hs : a15 d = s) (hp : post s) : wpX_sortAt post (pr, lv, 1, ou, yu, rm, mks, sc, md, rs, rn, pc, wc, a1, a2, a3, a4, a5, a6, a7, a8, a9, a10, a11, a12, a13, a14, a15, a16, a17, a18, a19, a20, a21, a22) 1 := by
  unfold wpX_sortAt
  refine mr_ft1 hd ⟨pk_in d 60 (by omega), ?_⟩
  rw [nI_clamp (by omega), hs]
  exact hp
theorem mr_na0 {post : Int32 → Prop} {d : Nat} {s : Int32} (hd : a14 0 = nI (d + 1)) (h6 : d < 6) (hs : a16 d = s) (hp : post s) : wpX_numberAt post (pr, lv, 1, ou, yu, rm, mks, sc, md, rs, rn, pc, wc, a1, a2, a3, a4, a5, a6, a7, a8, a9, a10, a11, a12, a13, a14, a15, a16, a17, a18, a19, a20, a21, a22) 0 := by
  unfold wpX_numberAt
  refine mr_ft0 hd ⟨pk_in d 60 (by omega), ?_⟩
  rw [nI_clamp (by omega), hs]
  exact hp
theorem mr_na1 {post : Int32 → Prop} {d : Nat} {s : Int32} (hd : a14 0 = nI (d + 2)) (h6 : d < 6) (hs : a16 d = s) (hp : post s) : wpX_numberAt post (pr, lv, 1, ou, yu, rm, mks, sc, md, rs, rn, pc, wc, a1, a2, a3, a4, a5, a6, a7, a8, a9, a10, a11, a12, a13, a14, a15, a16, a17, a18, a19, a20, a21, a22) 1 := by
  unfold wpX_numberAt
  refine mr_ft1 hd ⟨pk_in d 60 (by omega), ?_⟩
  rw [nI_clamp (by omega), hs]
  exact hp
theorem mr_dr1 {post : St1 → Prop} {d : Nat} (hd : a14 0 = nI (d + 1)) (h6 : d < 6) (hp : post (pr, lv, 1, ou, yu, rm, mks, sc, md, rs, rn, pc, wc, a1, a2, a3, a4, a5, a6, a7, a8, a9, a10, a11, a12, a13, upd a14 0 (nI d), a15, a16, a17, a18, a19, a20, a21, a22)) : wpX_dropValues post (pr, lv, 1, ou, yu, rm, mks, sc, md, rs, rn, pc, wc, a1, a2, a3, a4, a5, a6, a7, a8, a9, a10, a11, a12, a13, a14, a15, a16, a17, a18, a19, a20, a21, a22) 1 := by
  unfold wpX_dropValues
  refine mr_top ⟨pk_in 0 10 (by decide), pk_in 0 10 (by decide), nm_r (mr_u0 (w := nI d) ?_) hp⟩
  rw [sb_cl0, hd, nI_pred]
  exact mr_b8 d (by omega)
theorem mr_dr2 {post : St1 → Prop} {d : Nat} (hd : a14 0 = nI (d + 2)) (h6 : d < 6) (hp : post (pr, lv, 1, ou, yu, rm, mks, sc, md, rs, rn, pc, wc, a1, a2, a3, a4, a5, a6, a7, a8, a9, a10, a11, a12, a13, upd a14 0 (nI d), a15, a16, a17, a18, a19, a20, a21, a22)) : wpX_dropValues post (pr, lv, 1, ou, yu, rm, mks, sc, md, rs, rn, pc, wc, a1, a2, a3, a4, a5, a6, a7, a8, a9, a10, a11, a12, a13, a14, a15, a16, a17, a18, a19, a20, a21, a22) 2 := by
  unfold wpX_dropValues
  refine mr_top ⟨pk_in 0 10 (by decide), pk_in 0 10 (by decide), nm_r (mr_u0 (w := nI d) ?_) hp⟩
  rw [sb_cl0, hd, show (2 : Int32) = nI 2 from rfl, pk_sub (by omega)]
  exact mr_b8 d (by omega)
theorem mr_push {post : St1 → Prop} {d : Nat} {p0 p1 s v : Int32} (hd : a14 0 = nI d) (h6 : d < 6) (hs : p0.toInt8.toInt32 = s) (hv : p1 = v)
    (hp : post (pr, lv, 1, ou, yu, rm, mks, sc, md, rs, rn, pc, wc, a1, a2, a3, a4, a5, a6, a7, a8, a9, a10, a11, a12, a13, upd a14 0 (nI (d + 1)), upd a15 d s, upd a16 d v, a17, a18, a19, a20, a21, a22)) : wpX_push post (pr, lv, 1, ou, yu, rm, mks, sc, md, rs, rn, pc, wc, a1, a2, a3, a4, a5, a6, a7, a8, a9, a10, a11, a12, a13, a14, a15, a16, a17, a18, a19, a20, a21, a22) p0 p1 := by
  unfold wpX_push
  have e : (6 * 0 + a14 (0 : Int32).toNatClampNeg : Int32) = nI d := by rw [sb_cl0, hd, mr_m6]
  have i : vp_in (6 * 0 + a14 (0 : Int32).toNatClampNeg : Int32) 60 := by rw [e]; exact vp_in_nI (by omega) (by decide)
  have i0 : vp_in 0 10 := pk_in 0 10 (by decide)
  refine mr_top ⟨i0, i, nm_r (mr_uk e (by omega) hs) ⟨i0, i, nm_r (mr_uk e (by omega) hv) ⟨i0, i0, nm_r (mr_u0 (w := nI (d + 1)) ?_) hp⟩⟩⟩
  rw [sb_cl0, hd, nI_1]
  exact mr_b8 (d + 1) (by omega)
end
end
section
/-! ===== nothing is marked, nothing moves: markNeeded, countMarks, needed, collectAll, collectYoung; the look-ups sort, number, output ===== -/
theorem mr_z (x : Int32) : (((0 : Int32).toUInt32 >>> (x.toUInt32 &&& Int32.toUInt32 31)).toInt32 &&& 1) = 0 := by
  have e : (((0 : Int32).toUInt32 >>> (x.toUInt32 &&& Int32.toUInt32 31)).toInt32) = 0 := by
    apply Int32.toBitVec_inj.mp
    apply BitVec.eq_of_toNat_eq
    rw [pk_ushr 0 x _ rfl, show (0 : Int32).toBitVec.toNat = 0 from by decide, Nat.zero_div]
  rw [e]
  decide
section
variable {pr lv fc ou yu rm mks sc md rs rn pc wc : Int32} {a1 a2 a3 a4 a5 a6 a7 a8 a9 a10 a11 a12 a13 a14 a15 a16 a17 a18 a19 a20 a21 a22 : Nat → Int32}
/-- mark of something that is no object -/
theorem mr_mark {post : St1 → Prop} {p0 p1 : Int32} (h : ¬ p0 = 2) (hp : post (pr, lv, fc, ou, yu, rm, mks, sc, md, rs, rn, pc, wc, a1, a2, a3, a4, a5, a6, a7, a8, a9, a10, a11, a12, a13, a14, a15, a16, a17, a18, a19, a20, a21, a22)) : wpX_mark post (pr, lv, fc, ou, yu, rm, mks, sc, md, rs, rn, pc, wc, a1, a2, a3, a4, a5, a6, a7, a8, a9, a10, a11, a12, a13, a14, a15, a16, a17, a18, a19, a20, a21, a22) p0 p1 := br_f h hp
/-- markNeeded with F frames, F at most one, its stack empty -/
theorem mr_mn {post : St1 → Prop} {F : Nat} (hF : F ≤ 1) (h9 : ∀ g, g < 4 → ¬ a9 g = 2) (h12 : ∀ l, l < 4 * F → ¬ a12 l = 2) (h14 : 0 < F → a14 0 = nI 0)
    (hp : post (pr, lv, nI F, ou, yu, rm, 0, sc, md, rs, rn, pc, 0, a1, a2, a3, a4, a5, a6, a7, a8, a9, a10, a11, a12, a13, a14, a15, a16, a17, a18, a19, a20, a21, a22)) : wpX_markNeeded post (pr, lv, nI F, ou, yu, rm, mks, sc, md, rs, rn, pc, wc, a1, a2, a3, a4, a5, a6, a7, a8, a9, a10, a11, a12, a13, a14, a15, a16, a17, a18, a19, a20, a21, a22) := by
  have h131 : ∃ n, wX_markNeeded_131 post n pr lv (nI F) ou yu rm 0 sc md rs rn pc 0 a1 a2 a3 a4 a5 a6 a7 a8 a9 a10 a11 a12 a13 a14 a15 a16 a17 a18 a19 a20 a21 a22 := ⟨1, br_t (by decide) hp⟩
  have h75 : ∃ n, wX_markNeeded_75 post n 0 pr lv (nI F) ou yu rm 0 sc md rs rn pc 0 a1 a2 a3 a4 a5 a6 a7 a8 a9 a10 a11 a12 a13 a14 a15 a16 a17 a18 a19 a20 a21 a22 := by
    refine pk_loop (σ := Unit) (fun n i _ => wX_markNeeded_75 post n (nI i) pr lv (nI F) ou yu rm 0 sc md rs rn pc 0 a1 a2 a3 a4 a5 a6 a7 a8 a9 a10 a11 a12 a13 a14 a15 a16 a17 a18 a19 a20 a21 a22) (fun _ _ => True) F 0 () (by omega) trivial (fun n _ _ => pk_le F F (fun _ => h131) (fun z => absurd z (by omega))) (fun n i _ hi _ hw => pk_le F i (fun z => absurd z (by omega)) (fun _ => ?_))
    have e : i = 0 := by omega
    subst e
    refine nm_e ⟨1, pk_in 0 10 (by decide), br_t ?_ (nm_r (nI_1 0) (hw () trivial))⟩
    rw [mr_cl (by decide) (h14 hi)]
    decide
  have e4 : (4 * nI F : Int32) = nI (4 * F) := by rw [show (4 : Int32) = nI 4 from rfl, pk_mul]
  have h41 : ∃ n, wX_markNeeded_41 post n 0 pr lv (nI F) ou yu rm 0 sc md rs rn pc 0 a1 a2 a3 a4 a5 a6 a7 a8 a9 a10 a11 a12 a13 a14 a15 a16 a17 a18 a19 a20 a21 a22 :=
    pk_loop (σ := Unit) (fun n i _ => wX_markNeeded_41 post n (nI i) pr lv (nI F) ou yu rm 0 sc md rs rn pc 0 a1 a2 a3 a4 a5 a6 a7 a8 a9 a10 a11 a12 a13 a14 a15 a16 a17 a18 a19 a20 a21 a22) (fun _ _ => True) (4 * F) 0 () (by omega) trivial (fun n _ _ => pk_le (4 * F) (4 * F) (fun _ => h75) (fun z => absurd z (by omega)) e4) (fun n i _ hi _ hw => pk_le (4 * F) i (fun z => absurd z (by omega)) (fun _ => ⟨pk_in i 40 (by omega), pk_in i 40 (by omega), mr_mark (by rw [nI_clamp (by omega)]; exact h12 i hi) (nm_r (nI_1 i) (hw () trivial))⟩) e4)
  exact pk_loop (σ := Unit) (fun n i _ => wX_markNeeded_12 post n (nI i) pr lv (nI F) ou yu rm 0 sc md rs rn pc 0 a1 a2 a3 a4 a5 a6 a7 a8 a9 a10 a11 a12 a13 a14 a15 a16 a17 a18 a19 a20 a21 a22) (fun _ _ => True) 4 0 () (by omega) trivial (fun n _ _ => pk_le 4 4 (fun _ => h41) (fun z => absurd z (by omega))) (fun n i _ hi _ hw => pk_le 4 i (fun z => absurd z (by omega)) (fun _ => ⟨pk_in i 4 hi, pk_in i 4 hi, mr_mark (by rw [nI_clamp (by omega)]; exact h9 i hi) (nm_r (nI_1 i) (hw () trivial))⟩))
theorem mr_cm {post : Int32 → Prop} (hp : post 0) : wpX_countMarks post (pr, lv, fc, ou, yu, rm, 0, sc, md, rs, rn, pc, wc, a1, a2, a3, a4, a5, a6, a7, a8, a9, a10, a11, a12, a13, a14, a15, a16, a17, a18, a19, a20, a21, a22) :=
  pk_loop (σ := Unit) (fun n i _ => wX_countMarks_4 post pr lv fc ou yu rm 0 sc md rs rn pc wc a1 a2 a3 a4 a5 a6 a7 a8 a9 a10 a11 a12 a13 a14 a15 a16 a17 a18 a19 a20 a21 a22 n 0 (nI i)) (fun _ _ => True) 32 0 () (by omega) trivial (fun n _ _ => pk_le 32 32 (fun _ => hp) (fun z => absurd z (by omega)))
    (fun n i _ hi _ hw => pk_le 32 i (fun z => absurd z (by omega)) (fun _ => nm_r (e' := 0) (by rw [mr_z]; decide) (nm_r (nI_1 i) (hw () trivial))))
theorem mr_needed {post : Int32 → St1 → Prop} (h9 : ∀ g, g < 4 → ¬ a9 g = 2) (hp : post 0 (pr, lv, 0, ou, yu, rm, 0, sc, md, rs, rn, pc, 0, a1, a2, a3, a4, a5, a6, a7, a8, a9, a10, a11, a12, a13, a14, a15, a16, a17, a18, a19, a20, a21, a22)) : wpX_needed post (pr, lv, 0, ou, yu, rm, mks, sc, md, rs, rn, pc, wc, a1, a2, a3, a4, a5, a6, a7, a8, a9, a10, a11, a12, a13, a14, a15, a16, a17, a18, a19, a20, a21, a22) := by
  unfold wpX_needed
  exact mr_mn (F := 0) (by decide) h9 (fun l h => absurd h (by omega)) (fun h => absurd h (by omega)) (mr_cm hp)
/-- collectAll with one frame, its stack empty, no object held -/
theorem mr_ca {post : St1 → Prop} (h9 : ∀ g, g < 4 → ¬ a9 g = 2) (h12 : ∀ l, l < 4 → ¬ a12 l = 2) (h14 : a14 0 = nI 0)
    (hp : post (pr, lv, 1, 0, 0, 0, 0, sc, md, rs, rn, pc, 0, a1, a2, a3, a4, a5, a6, a7, a8, a9, a10, a11, a12, a13, a14, a15, a16, a17, a18, a19, a20, a21, a22)) : wpX_collectAll post (pr, lv, 1, ou, yu, rm, mks, sc, md, rs, rn, pc, wc, a1, a2, a3, a4, a5, a6, a7, a8, a9, a10, a11, a12, a13, a14, a15, a16, a17, a18, a19, a20, a21, a22) := by
  have h201 : ∃ n, wX_collectAll_201 post 0 n 0 pr lv 1 ou yu rm 0 sc md rs rn pc 0 a1 a2 a3 a4 a5 a6 a7 a8 a9 a10 a11 a12 a13 a14 a15 a16 a17 a18 a19 a20 a21 a22 :=
    pk_loop (σ := Unit) (fun n i _ => wX_collectAll_201 post 0 n (nI i) pr lv 1 ou yu rm 0 sc md rs rn pc 0 a1 a2 a3 a4 a5 a6 a7 a8 a9 a10 a11 a12 a13 a14 a15 a16 a17 a18 a19 a20 a21 a22) (fun _ _ => True) 32 0 () (by omega) trivial (fun n _ _ => pk_le 32 32 (fun _ => hp) (fun z => absurd z (by omega)))
      (fun n i _ hi _ hw => pk_le 32 i (fun z => absurd z (by omega)) (fun _ => br_t (mr_z _) (nm_r (nI_1 i) (hw () trivial))))
  have h132 : ∃ n, wX_collectAll_132 post 0 pr lv 1 ou yu rm 0 sc md rs rn pc 0 n 0 a1 a2 a3 a4 a5 a6 a7 a8 a9 a10 a11 a12 a13 a14 a15 a16 a17 a18 a19 a20 a21 a22 := by
    refine pk_loop (σ := Unit) (fun n i _ => wX_collectAll_132 post 0 pr lv 1 ou yu rm 0 sc md rs rn pc 0 n (nI i) a1 a2 a3 a4 a5 a6 a7 a8 a9 a10 a11 a12 a13 a14 a15 a16 a17 a18 a19 a20 a21 a22) (fun _ _ => True) 1 0 () (by omega) trivial (fun n _ _ => pk_le 1 1 (fun _ => h201) (fun z => absurd z (by omega))) (fun n i _ hi _ hw => pk_le 1 i (fun z => absurd z (by omega)) (fun _ => ?_))
    have e : i = 0 := by omega
    subst e
    refine nm_e ⟨1, pk_in 0 10 (by decide), br_t ?_ (nm_r (nI_1 0) (hw () trivial))⟩
    rw [mr_cl (by decide) h14]
    decide
  have h87 : ∃ n, wX_collectAll_87 post 0 pr lv 1 ou yu rm 0 sc md rs rn pc 0 n 0 a1 a2 a3 a4 a5 a6 a7 a8 a9 a10 a11 a12 a13 a14 a15 a16 a17 a18 a19 a20 a21 a22 :=
    pk_loop (σ := Unit) (fun n i _ => wX_collectAll_87 post 0 pr lv 1 ou yu rm 0 sc md rs rn pc 0 n (nI i) a1 a2 a3 a4 a5 a6 a7 a8 a9 a10 a11 a12 a13 a14 a15 a16 a17 a18 a19 a20 a21 a22) (fun _ _ => True) 4 0 () (by omega) trivial (fun n _ _ => pk_le 4 4 (fun _ => h132) (fun z => absurd z (by omega)) (by decide))
      (fun n i _ hi _ hw => pk_le 4 i (fun z => absurd z (by omega)) (fun _ => ⟨pk_in i 40 (by omega), br_f (by rw [nI_clamp (by omega)]; exact h12 i hi) (nm_r (nI_1 i) (hw () trivial))⟩) (by decide))
  have h47 : ∃ n, wX_collectAll_47 post 0 pr lv 1 ou yu rm 0 sc md rs rn pc 0 n 0 a1 a2 a3 a4 a5 a6 a7 a8 a9 a10 a11 a12 a13 a14 a15 a16 a17 a18 a19 a20 a21 a22 :=
    pk_loop (σ := Unit) (fun n i _ => wX_collectAll_47 post 0 pr lv 1 ou yu rm 0 sc md rs rn pc 0 n (nI i) a1 a2 a3 a4 a5 a6 a7 a8 a9 a10 a11 a12 a13 a14 a15 a16 a17 a18 a19 a20 a21 a22) (fun _ _ => True) 4 0 () (by omega) trivial (fun n _ _ => pk_le 4 4 (fun _ => h87) (fun z => absurd z (by omega)))
      (fun n i _ hi _ hw => pk_le 4 i (fun z => absurd z (by omega)) (fun _ => ⟨pk_in i 4 hi, br_f (by rw [nI_clamp (by omega)]; exact h9 i hi) (nm_r (nI_1 i) (hw () trivial))⟩))
  have h8 : ∃ n, wX_collectAll_8 post pr lv 1 ou yu rm 0 sc md rs rn pc 0 n 0 0 a1 a2 a3 a4 a5 a6 a7 a8 a9 a10 a11 a12 a13 a14 a15 a16 a17 a18 a19 a20 a21 a22 :=
    pk_loop (σ := Unit) (fun n i _ => wX_collectAll_8 post pr lv 1 ou yu rm 0 sc md rs rn pc 0 n 0 (nI i) a1 a2 a3 a4 a5 a6 a7 a8 a9 a10 a11 a12 a13 a14 a15 a16 a17 a18 a19 a20 a21 a22) (fun _ _ => True) 32 0 () (by omega) trivial (fun n _ _ => pk_le 32 32 (fun _ => h47) (fun z => absurd z (by omega)))
      (fun n i _ hi _ hw => pk_le 32 i (fun z => absurd z (by omega)) (fun _ => br_t (mr_z _) (nm_r (nI_1 i) (hw () trivial))))
  unfold wpX_collectAll
  exact mr_mn (F := 1) (by decide) h9 h12 (fun _ => h14) h8
/-- collectYoung likewise, no old object there -/
theorem mr_cy {post : St1 → Prop} (h9 : ∀ g, g < 4 → ¬ a9 g = 2) (h12 : ∀ l, l < 4 → ¬ a12 l = 2) (h14 : a14 0 = nI 0)
    (hp : ∀ b21, post (pr, lv, 1, 0, 0, 0, mks, sc, md, rs, rn, pc, wc, a1, a2, a3, a4, a5, a6, a7, a8, a9, a10, a11, a12, a13, a14, a15, a16, a17, a18, a19, a20, b21, a22)) : wpX_collectYoung post (pr, lv, 1, 0, yu, rm, mks, sc, md, rs, rn, pc, wc, a1, a2, a3, a4, a5, a6, a7, a8, a9, a10, a11, a12, a13, a14, a15, a16, a17, a18, a19, a20, a21, a22) := by
  have h206 : ∀ b21, ∃ n, wX_collectYoung_206 post n 0 pr lv 1 0 yu rm mks sc md rs rn pc wc a1 a2 a3 a4 a5 a6 a7 a8 a9 a10 a11 a12 a13 a14 a15 a16 a17 a18 a19 a20 b21 a22 := fun b21 => ⟨1, br_t (by decide) (hp b21)⟩
  have h179 : ∀ b21, ∃ n, wX_collectYoung_179 post 0 n 0 pr lv 1 0 yu rm mks sc md rs rn pc wc a1 a2 a3 a4 a5 a6 a7 a8 a9 a10 a11 a12 a13 a14 a15 a16 a17 a18 a19 a20 b21 a22 := fun b21 => ⟨1, br_t (by decide) (h206 b21)⟩
  have h111 : ∀ b21, ∃ n, wX_collectYoung_111 post 0 n 0 pr lv 1 0 yu rm mks sc md rs rn pc wc a1 a2 a3 a4 a5 a6 a7 a8 a9 a10 a11 a12 a13 a14 a15 a16 a17 a18 a19 a20 b21 a22 := by
    intro b21
    refine pk_loop (σ := Unit) (fun n i _ => wX_collectYoung_111 post 0 n (nI i) pr lv 1 0 yu rm mks sc md rs rn pc wc a1 a2 a3 a4 a5 a6 a7 a8 a9 a10 a11 a12 a13 a14 a15 a16 a17 a18 a19 a20 b21 a22) (fun _ _ => True) 1 0 () (by omega) trivial (fun n _ _ => pk_le 1 1 (fun _ => h179 b21) (fun z => absurd z (by omega))) (fun n i _ hi _ hw => pk_le 1 i (fun z => absurd z (by omega)) (fun _ => ?_))
    have e : i = 0 := by omega
    subst e
    refine nm_e ⟨1, pk_in 0 10 (by decide), br_t ?_ (nm_r (nI_1 0) (hw () trivial))⟩
    rw [mr_cl (by decide) h14]
    decide
  have h67 : ∀ b21, ∃ n, wX_collectYoung_67 post 0 n 0 pr lv 1 0 yu rm mks sc md rs rn pc wc a1 a2 a3 a4 a5 a6 a7 a8 a9 a10 a11 a12 a13 a14 a15 a16 a17 a18 a19 a20 b21 a22 := fun b21 =>
    pk_loop (σ := Unit) (fun n i _ => wX_collectYoung_67 post 0 n (nI i) pr lv 1 0 yu rm mks sc md rs rn pc wc a1 a2 a3 a4 a5 a6 a7 a8 a9 a10 a11 a12 a13 a14 a15 a16 a17 a18 a19 a20 b21 a22) (fun _ _ => True) 4 0 () (by omega) trivial (fun n _ _ => pk_le 4 4 (fun _ => h111 b21) (fun z => absurd z (by omega)) (by decide))
      (fun n i _ hi _ hw => pk_le 4 i (fun z => absurd z (by omega)) (fun _ => ⟨pk_in i 40 (by omega), br_f (by rw [nI_clamp (by omega)]; exact h12 i hi) (nm_r (nI_1 i) (hw () trivial))⟩) (by decide))
  have h28 : ∀ b21, ∃ n, wX_collectYoung_28 post 0 n 0 pr lv 1 0 yu rm mks sc md rs rn pc wc a1 a2 a3 a4 a5 a6 a7 a8 a9 a10 a11 a12 a13 a14 a15 a16 a17 a18 a19 a20 b21 a22 := fun b21 =>
    pk_loop (σ := Unit) (fun n i _ => wX_collectYoung_28 post 0 n (nI i) pr lv 1 0 yu rm mks sc md rs rn pc wc a1 a2 a3 a4 a5 a6 a7 a8 a9 a10 a11 a12 a13 a14 a15 a16 a17 a18 a19 a20 b21 a22) (fun _ _ => True) 4 0 () (by omega) trivial (fun n _ _ => pk_le 4 4 (fun _ => h67 b21) (fun z => absurd z (by omega)))
      (fun n i _ hi _ hw => pk_le 4 i (fun z => absurd z (by omega)) (fun _ => ⟨pk_in i 4 hi, br_f (by rw [nI_clamp (by omega)]; exact h9 i hi) (nm_r (nI_1 i) (hw () trivial))⟩))
  exact pk_loop (fun n i s => wX_collectYoung_2 post pr lv 1 0 yu rm mks sc md rs rn pc wc n (nI i) a1 a2 a3 a4 a5 a6 a7 a8 a9 a10 a11 a12 a13 a14 a15 a16 a17 a18 a19 a20 s a22) (fun _ _ => True) 8 0 a21 (by omega) trivial (fun n s _ => pk_le 8 8 (fun _ => h28 s) (fun z => absurd z (by omega)))
      (fun n i s hi _ hw => pk_le 8 i (fun z => absurd z (by omega)) (fun _ => ⟨pk_in i 32 (by omega), nm_e (nm_r (nI_1 i) (hw _ trivial))⟩))
/-! ===== look-ups ===== -/
theorem mr_s3 {post : Int32 → Prop} {g : Nat} (hg : g < 4) {s : Int32} (h9 : a9 g = s) (hp : post s) : wpX_sort post (pr, lv, fc, ou, yu, rm, mks, sc, md, rs, rn, pc, wc, a1, a2, a3, a4, a5, a6, a7, a8, a9, a10, a11, a12, a13, a14, a15, a16, a17, a18, a19, a20, a21, a22) (nI g) 3 := by
  refine br_f (nI_pos (by omega)) (br_f (nI_nlt (b := g) (a := 3) (by omega) (by decide)) (br_f (by decide) (br_f (by decide) ⟨1, br_f (by decide) (br_t (by decide) (br_f (by decide) ⟨1, br_t (by decide) (br_f (by decide) (br_f (by decide) ⟨vp_in_nI hg (by decide), ?_⟩))⟩))⟩)))
  rw [nI_clamp (by omega), h9]
  exact hp
theorem mr_s12 {post : Int32 → Prop} {g : Nat} (hg : g < 4) (h9 : ¬ a9 g = 2) (hp : post (-2)) : wpX_sort post (pr, lv, fc, ou, yu, rm, mks, sc, md, rs, rn, pc, wc, a1, a2, a3, a4, a5, a6, a7, a8, a9, a10, a11, a12, a13, a14, a15, a16, a17, a18, a19, a20, a21, a22) (nI g) 12 := by
  refine br_f (nI_pos (by omega)) (br_f (nI_nlt (b := g) (a := 3) (by omega) (by decide)) (br_f (by decide) (br_f (by decide) ⟨2, br_f (by decide) (br_f (by decide) (nm_r (e' := 3) (by decide) (nm_r (e' := 1) (by decide) (br_f (by decide) (br_t (by decide) ?_)))))⟩)))
  refine br_f (by decide) ⟨1, br_f (by decide) (br_f (by decide) ⟨vp_in_nI hg (by decide), br_f (by decide) ⟨vp_in_nI hg (by decide), br_f ?_ (br_t (by decide) hp)⟩⟩)⟩
  rw [nI_clamp (by omega)]
  exact h9
theorem mr_n3 {post : Int32 → Prop} {g : Nat} (hg : g < 4) {v : Int64} {s n : Int32} (hv : mr_val v s n) (h9 : a9 g = s) (h10 : a10 g = n) (hp : post n) : wpX_number post (pr, lv, fc, ou, yu, rm, mks, sc, md, rs, rn, pc, wc, a1, a2, a3, a4, a5, a6, a7, a8, a9, a10, a11, a12, a13, a14, a15, a16, a17, a18, a19, a20, a21, a22) (nI g) 3 := by
  unfold wpX_number
  refine mr_s3 hg h9 ?_
  rcases hv with ⟨rfl, _⟩ | ⟨rfl, rfl, _⟩
  · refine br_t (by decide) ⟨1, br_t (by decide) (br_f (by decide) ⟨vp_in_nI hg (by decide), br_f (by decide) ?_⟩)⟩
    rw [nI_clamp (by omega), h10]
    exact hp
  · exact br_f (by decide) hp
theorem mr_out {post : Int32 → Prop} {v : Int32} (h22 : a22 0 = v) (hp : post v) : wpX_output post (pr, lv, fc, ou, yu, rm, mks, sc, md, rs, rn, 1, wc, a1, a2, a3, a4, a5, a6, a7, a8, a9, a10, a11, a12, a13, a14, a15, a16, a17, a18, a19, a20, a21, a22) 0 := by
  refine br_f (by decide) (br_f (by decide) (br_t (by decide) ⟨pk_in 0 20 (by decide), ?_⟩))
  rw [sb_cl0, h22]
  exact hp
end
end
section
/-! ===== the maker, prepare, a run's start, code, level ===== -/
/-- what prepare keeps of two instructions that stand together -/
def mr_cp (x y : Int32) : Int32 := if x = 3 ∧ y = 16 then 1 else if x = 1 ∧ y = 8 then 2 else if x = 11 ∧ y = 14 then 3 else if x = 3 ∧ y = 3 then 4 else 0
theorem mr_cpb (x y : Int32) : (mr_cp x y).toInt8.toInt32 = mr_cp x y := by
  unfold mr_cp
  split
  · decide
  · split
    · decide
    · split
      · decide
      · split <;> decide
theorem mr_cpf {x : Int32} (y : Int32) (h3 : ¬ x = 3) (h1 : ¬ x = 1) (h11 : ¬ x = 11) : mr_cp x y = 0 := by
  unfold mr_cp
  rw [if_neg (fun z => h3 z.1), if_neg (fun z => h1 z.1), if_neg (fun z => h11 z.1), if_neg (fun z => h3 z.1)]
theorem mr_cps (x : Int32) {y : Int32} (h16 : ¬ y = 16) (h8 : ¬ y = 8) (h14 : ¬ y = 14) (h3 : ¬ y = 3) : mr_cp x y = 0 := by
  unfold mr_cp
  rw [if_neg (fun z => h16 z.2), if_neg (fun z => h8 z.2), if_neg (fun z => h14 z.2), if_neg (fun z => h3 z.2)]
theorem mr_fill {s : Nat → Int32} {p : Nat → Int32 → Prop} {i : Nat} {x : Int32} (h : ∀ j, j < i → p j (s j)) (hx : p i x) : ∀ j, j < i + 1 → p j (upd s i x j) := by
  intro j hj
  by_cases e : j = i
  · rw [e, pk_us]
    exact hx
  · rw [pk_un e]
    exact h j (by omega)
section
variable {pr lv fc ou yu rm mks sc md rs rn pc wc : Int32} {a1 a2 a3 a4 a5 a6 a7 a8 a9 a10 a11 a12 a13 a14 a15 a16 a17 a18 a19 a20 a21 a22 : Nat → Int32}
theorem mr_co {post : Int32 → Prop} {x y : Int32} (hp : post (mr_cp x y)) : wpX_coupleOf post (pr, lv, fc, ou, yu, rm, mks, sc, md, rs, rn, pc, wc, a1, a2, a3, a4, a5, a6, a7, a8, a9, a10, a11, a12, a13, a14, a15, a16, a17, a18, a19, a20, a21, a22) x y := by
  have h40 : ¬ (x = 3 ∧ y = 16) → ¬ (x = 1 ∧ y = 8) → ¬ (x = 11 ∧ y = 14) → wX_coupleOf_40 post x y pr lv fc ou yu rm mks sc md rs rn pc wc a1 a2 a3 a4 a5 a6 a7 a8 a9 a10 a11 a12 a13 a14 a15 a16 a17 a18 a19 a20 a21 a22 := by
    intro n1 n2 n3
    unfold mr_cp at hp
    rw [if_neg n1, if_neg n2, if_neg n3] at hp
    refine br_c (fun hx => br_c (fun hy => ?_) (fun hy => ?_)) (fun hx => ?_)
    · rw [if_pos ⟨hx, hy⟩] at hp
      exact hp
    · rw [if_neg (fun z => hy z.2)] at hp
      exact hp
    · rw [if_neg (fun z => hx z.1)] at hp
      exact hp
  have h26 : ¬ (x = 3 ∧ y = 16) → ¬ (x = 1 ∧ y = 8) → wX_coupleOf_26 post x y pr lv fc ou yu rm mks sc md rs rn pc wc a1 a2 a3 a4 a5 a6 a7 a8 a9 a10 a11 a12 a13 a14 a15 a16 a17 a18 a19 a20 a21 a22 := by
    intro n1 n2
    refine br_c (fun hx => br_c (fun hy => ?_) (fun hy => h40 n1 n2 (fun z => hy z.2))) (fun hx => h40 n1 n2 (fun z => hx z.1))
    unfold mr_cp at hp
    rw [if_neg n1, if_neg n2, if_pos ⟨hx, hy⟩] at hp
    exact hp
  have h13 : ¬ (x = 3 ∧ y = 16) → wX_coupleOf_13 post x y pr lv fc ou yu rm mks sc md rs rn pc wc a1 a2 a3 a4 a5 a6 a7 a8 a9 a10 a11 a12 a13 a14 a15 a16 a17 a18 a19 a20 a21 a22 := by
    intro n1
    refine br_c (fun hx => br_c (fun hy => ?_) (fun hy => h26 n1 (fun z => hy z.2))) (fun hx => h26 n1 (fun z => hx z.1))
    unfold mr_cp at hp
    rw [if_neg n1, if_pos ⟨hx, hy⟩] at hp
    exact hp
  refine br_c (fun hx => br_c (fun hy => ?_) (fun hy => h13 (fun z => hy z.2))) (fun hx => h13 (fun z => hx z.1))
  unfold mr_cp at hp
  rw [if_pos ⟨hx, hy⟩] at hp
  exact hp
theorem mr_prep {post : St1 → Prop} (h3 : ∀ j, j < 4 → a3 j < 0)
    (hp : ∀ b5 b6 b7, (∀ i, i < 59 → b6 i = mr_cp (a1 i) (a1 (i + 1))) → post (1, lv, fc, ou, yu, rm, mks, sc, md, rs, rn, pc, wc, a1, a2, a3, a4, b5, b6, b7, a8, a9, a10, a11, a12, a13, a14, a15, a16, a17, a18, a19, a20, a21, a22)) : wpX_prepare post (0, lv, fc, ou, yu, rm, mks, sc, md, rs, rn, pc, wc, a1, a2, a3, a4, a5, a6, a7, a8, a9, a10, a11, a12, a13, a14, a15, a16, a17, a18, a19, a20, a21, a22) := by
  have h95 : ∀ b5, ∃ n, wX_prepare_95 post 1 lv fc ou yu rm mks sc md rs rn pc wc n 0 a1 a2 a3 a4 b5 a6 a7 a8 a9 a10 a11 a12 a13 a14 a15 a16 a17 a18 a19 a20 a21 a22 := by
    intro b5
    refine pk_loop (σ := (Nat → Int32) × (Nat → Int32)) (fun n i s => wX_prepare_95 post 1 lv fc ou yu rm mks sc md rs rn pc wc n (nI i) a1 a2 a3 a4 b5 s.1 s.2 a8 a9 a10 a11 a12 a13 a14 a15 a16 a17 a18 a19 a20 a21 a22) (fun i s => ∀ j, j < i → j < 59 → s.1 j = mr_cp (a1 j) (a1 (j + 1))) 60 0 (a6, a7) (by omega) (fun j hj => absurd hj (by omega)) (fun n s h => pk_le 60 60 (fun _ => hp b5 s.1 s.2 (fun i hi => h i (by omega) hi)) (fun z => absurd z (by omega))) (fun n i s hi h hw => pk_le 60 i (fun z => absurd z (by omega)) (fun _ => ⟨pk_in i 60 hi, nm_e ?_⟩))
    refine pk_le 59 i (fun z => ⟨pk_in i 60 hi, nm_e (nm_r (nI_1 i) (hw (_, _) ?_))⟩) (fun z => ⟨pk_in i 60 hi, ?_, ?_⟩)
    · rw [nI_clamp (by omega)]
      exact mr_fill (p := fun j v => j < 59 → v = mr_cp (a1 j) (a1 (j + 1))) h (fun g => absurd g (by omega))
    · rw [nI_1]
      exact pk_in (i + 1) 60 (by omega)
    · refine mr_co ⟨pk_in i 60 hi, nm_e (nm_r (nI_1 i) (hw (_, _) ?_))⟩
      rw [nI_1, nI_clamp (by omega), nI_clamp (by omega), mr_cpb]
      exact mr_fill (p := fun j v => j < 59 → v = mr_cp (a1 j) (a1 (j + 1))) h (fun g => rfl)
  have h15 : ∃ n, wX_prepare_15 post 1 lv fc ou yu rm mks sc md rs rn pc wc n 0 a1 a2 a3 a4 a5 a6 a7 a8 a9 a10 a11 a12 a13 a14 a15 a16 a17 a18 a19 a20 a21 a22 := by
    refine pk_loop (fun n i s => wX_prepare_15 post 1 lv fc ou yu rm mks sc md rs rn pc wc n (nI i) a1 a2 a3 a4 s a6 a7 a8 a9 a10 a11 a12 a13 a14 a15 a16 a17 a18 a19 a20 a21 a22) (fun _ _ => True) 4 0 a5 (by omega) trivial (fun n s _ => pk_le 4 4 (fun _ => h95 s) (fun z => absurd z (by omega))) (fun n i s hi _ hw => pk_le 4 i (fun z => absurd z (by omega)) (fun _ => ?_))
    refine pk_loop (fun m k t => wX_prepare_22 post (wX_prepare_15 post 1 lv fc ou yu rm mks sc md rs rn pc wc n) (nI i) 1 lv fc ou yu rm mks sc md rs rn pc wc m (nI k) a1 a2 a3 a4 t a6 a7 a8 a9 a10 a11 a12 a13 a14 a15 a16 a17 a18 a19 a20 a21 a22) (fun _ _ => True) 4 0 s (by omega) trivial (fun m t _ => pk_le 4 4 (fun _ => nm_r (nI_1 i) (hw t trivial)) (fun z => absurd z (by omega))) (fun m k t hk _ hv => pk_le 4 k (fun z => absurd z (by omega)) (fun _ => ?_))
    have e : (4 * nI i + nI k : Int32) = nI (4 * i + k) := by rw [show (4 : Int32) = nI 4 from rfl, pk_mul, nI_add]
    have v : vp_in (4 * nI i + nI k) 16 := by rw [e]; exact vp_in_nI (by omega) (by decide)
    refine ⟨v, nm_e (br_c (fun _ => ⟨v, nm_e (nm_r (nI_1 k) (hv _ trivial))⟩) (fun _ => ⟨vp_in_nI hi (by decide), br_t ?_ ⟨v, nm_e (nm_r (nI_1 k) (hv _ trivial))⟩⟩))⟩
    rw [nI_clamp (by omega)]
    exact h3 i hi
  exact br_t rfl h15
theorem mr_open {post : St1 → Prop}
    (hp : post (pr, lv, 1, ou, yu, rm, mks, sc, md, rs, rn, pc, wc, a1, a2, a3, a4, a5, a6, a7, a8, a9, a10, upd a11 0 0, upd (upd (upd (upd a12 0 0) 1 0) 2 0) 3 0, upd (upd (upd (upd a13 0 0) 1 0) 2 0) 3 0, upd a14 0 0, a15, a16, a17, a18, a19, a20, a21, a22)) : wpX_openFrame post (pr, lv, 0, ou, yu, rm, mks, sc, md, rs, rn, pc, wc, a1, a2, a3, a4, a5, a6, a7, a8, a9, a10, a11, a12, a13, a14, a15, a16, a17, a18, a19, a20, a21, a22) 0 := by
  refine ⟨pk_in 0 10 (by decide), nm_r (mr_u0 rfl) ⟨pk_in 0 10 (by decide), nm_r (mr_u0 rfl) (nm_r (e' := 0) (by decide) ⟨5, ?_⟩)⟩⟩
  refine br_f (by decide) ⟨pk_in 0 40 (by decide), nm_r (mr_uk (k := 0) rfl (by decide) rfl) ⟨pk_in 0 40 (by decide), nm_r (mr_uk (k := 0) rfl (by decide) rfl) (nm_r (e' := 1) (by decide) ?_)⟩⟩
  refine br_f (by decide) ⟨pk_in 1 40 (by decide), nm_r (mr_uk (k := 1) rfl (by decide) rfl) ⟨pk_in 1 40 (by decide), nm_r (mr_uk (k := 1) rfl (by decide) rfl) (nm_r (e' := 2) (by decide) ?_)⟩⟩
  refine br_f (by decide) ⟨pk_in 2 40 (by decide), nm_r (mr_uk (k := 2) rfl (by decide) rfl) ⟨pk_in 2 40 (by decide), nm_r (mr_uk (k := 2) rfl (by decide) rfl) (nm_r (e' := 3) (by decide) ?_)⟩⟩
  refine br_f (by decide) ⟨pk_in 3 40 (by decide), nm_r (mr_uk (k := 3) rfl (by decide) rfl) ⟨pk_in 3 40 (by decide), nm_r (mr_uk (k := 3) rfl (by decide) rfl) (nm_r (e' := 4) (by decide) ?_)⟩⟩
  exact br_t (by decide) (nm_r (e' := 1) (by decide) hp)
theorem mr_setL {post : St1 → Prop} {l : Nat} {p1 p2 s v : Int32} (hl : l < 4) (hs : p1.toInt8.toInt32 = s) (hv : p2 = v) (hp : post (pr, lv, 1, ou, yu, rm, mks, sc, md, rs, rn, pc, wc, a1, a2, a3, a4, a5, a6, a7, a8, a9, a10, a11, upd a12 l s, upd a13 l v, a14, a15, a16, a17, a18, a19, a20, a21, a22)) : wpX_setLocal post (pr, lv, 1, ou, yu, rm, mks, sc, md, rs, rn, pc, wc, a1, a2, a3, a4, a5, a6, a7, a8, a9, a10, a11, a12, a13, a14, a15, a16, a17, a18, a19, a20, a21, a22) (nI l) p1 p2 := by
  unfold wpX_setLocal
  exact mr_top (nm_r (mr_m4 l) ⟨pk_in l 40 (by omega), nm_r (mr_uk rfl (by omega) hs) ⟨pk_in l 40 (by omega), nm_r (mr_uk rfl (by omega) hv) hp⟩⟩)
/-- a run's start: prepared, one frame at 0, its place 1 holds the argument -/
theorem mr_run {post : Int32 → St1 → Prop} {arg : Int32} (h3 : ∀ j, j < 4 → a3 j < 0)
    (hp : ∀ b5 b6 b7, (∀ i, i < 59 → b6 i = mr_cp (a1 i) (a1 (i + 1))) → ∃ n, wX_run_48 post n (-1) 1 lv 1 ou yu rm mks 0 0 0 0 0 wc a1 a2 a3 a4 b5 b6 b7 a8 a9 a10 (upd a11 0 0) (upd (upd (upd (upd (upd a12 0 0) 1 0) 2 0) 3 0) 1 1) (upd (upd (upd (upd (upd a13 0 0) 1 0) 2 0) 3 0) 1 arg) (upd a14 0 0) a15 a16 a17 a18 a19 a20 a21 a22) :
    wpX_run post (0, lv, fc, ou, yu, rm, mks, sc, md, rs, rn, pc, wc, a1, a2, a3, a4, a5, a6, a7, a8, a9, a10, a11, a12, a13, a14, a15, a16, a17, a18, a19, a20, a21, a22) 0 arg := by
  unfold wpX_run
  exact mr_prep h3 (fun b5 b6 b7 hb => mr_open (mr_setL (l := 1) (by decide) (by decide) rfl (hp b5 b6 b7 hb)))
theorem mr_level {post : Int32 → St1 → Prop} {k : Nat} {p0 : Int32} (hk : k < 3) (he : p0 = nI k) (hp : post 1 (pr, nI k, fc, ou, yu, rm, mks, sc, md, rs, rn, pc, wc, a1, a2, a3, a4, a5, a6, a7, a8, a9, a10, a11, a12, a13, a14, a15, a16, a17, a18, a19, a20, a21, a22)) : wpX_level post (pr, lv, fc, ou, yu, rm, mks, sc, md, rs, rn, pc, wc, a1, a2, a3, a4, a5, a6, a7, a8, a9, a10, a11, a12, a13, a14, a15, a16, a17, a18, a19, a20, a21, a22) p0 := by
  subst he
  exact br_f (nI_pos (by omega)) (br_t (nI_le (b := 2) (by omega) (by decide)) hp)
theorem mr_code {post : Int32 → St1 → Prop} {i : Nat} {o n : Int32} (hi : i < 60) (ho : ¬ o < 0) (ho2 : o ≤ 23) (hb : o.toInt8.toInt32 = o)
    (h4 : o = 3 ∨ o = 4 ∨ o = 15 ∨ o = 18 ∨ o = 19 ∨ o = 21 ∨ o = 22 → ¬ n < 0 ∧ ¬ 3 < n) (h3 : o = 16 ∨ o = 17 → ¬ n < 0 ∧ n ≤ 2)
    (hp : post 1 (0, lv, fc, ou, yu, rm, mks, sc, md, rs, rn, pc, wc, upd a1 i o, upd a2 i n, a3, a4, a5, a6, a7, a8, a9, a10, a11, a12, a13, a14, a15, a16, a17, a18, a19, a20, a21, a22)) : wpX_code post (pr, lv, fc, ou, yu, rm, mks, sc, md, rs, rn, pc, wc, a1, a2, a3, a4, a5, a6, a7, a8, a9, a10, a11, a12, a13, a14, a15, a16, a17, a18, a19, a20, a21, a22) (nI i) o n := by
  have v : vp_in (nI i) 60 := vp_in_nI hi (by decide)
  have h118 : wX_code_118 post (nI i) o n pr lv fc ou yu rm mks sc md rs rn pc wc a1 a2 a3 a4 a5 a6 a7 a8 a9 a10 a11 a12 a13 a14 a15 a16 a17 a18 a19 a20 a21 a22 := ⟨v, nm_r (mr_uk rfl (by omega) hb) ⟨v, nm_r (mr_uk rfl (by omega) rfl) hp⟩⟩
  have h102 : ∀ x5, (¬ x5 = 0 → ¬ n < 0 ∧ n ≤ 2) → wX_code_102 post (nI i) o n x5 pr lv fc ou yu rm mks sc md rs rn pc wc a1 a2 a3 a4 a5 a6 a7 a8 a9 a10 a11 a12 a13 a14 a15 a16 a17 a18 a19 a20 a21 a22 := fun x5 h => br_c (fun _ => h118) (fun g => br_f (h g).1 (br_t (h g).2 h118))
  have h86 : ∀ x4 z0, (¬ x4 = 0 → ¬ n < 0 ∧ ¬ 3 < n) → (¬ z0 = 0 → ¬ n < 0 ∧ n ≤ 2) → wX_code_86 post (nI i) o n x4 z0 pr lv fc ou yu rm mks sc md rs rn pc wc a1 a2 a3 a4 a5 a6 a7 a8 a9 a10 a11 a12 a13 a14 a15 a16 a17 a18 a19 a20 a21 a22 := fun x4 z0 h g => br_c (fun _ => h102 z0 g) (fun q => br_f (h q).1 (br_f (h q).2 (h102 z0 g)))
  have h67 : ∀ z0, (¬ z0 = 0 → ¬ n < 0 ∧ ¬ 3 < n) → wX_code_67 post (nI i) o n z0 pr lv fc ou yu rm mks sc md rs rn pc wc a1 a2 a3 a4 a5 a6 a7 a8 a9 a10 a11 a12 a13 a14 a15 a16 a17 a18 a19 a20 a21 a22 := fun z0 h => br_c (fun q => h86 z0 1 h (fun _ => h3 (Or.inl q))) (fun _ => br_c (fun q => h86 z0 1 h (fun _ => h3 (Or.inr q))) (fun _ => h86 z0 0 h (fun q => absurd rfl q)))
  have h62 : (o = 3 ∨ o = 4 ∨ o = 15 ∨ o = 18 ∨ o = 19 ∨ o = 21 ∨ o = 22) → wX_code_62 post (nI i) o n pr lv fc ou yu rm mks sc md rs rn pc wc a1 a2 a3 a4 a5 a6 a7 a8 a9 a10 a11 a12 a13 a14 a15 a16 a17 a18 a19 a20 a21 a22 := fun q => h67 1 (fun _ => h4 q)
  refine br_f (nI_pos (by omega)) (br_f (nI_nlt (a := 59) (b := i) (by omega) (by decide)) (br_f ho (br_t ho2 ?_)))
  exact br_c (fun q => h62 (Or.inl q)) (fun _ => br_c (fun q => h62 (Or.inr (Or.inl q))) (fun _ => br_c (fun q => h62 (Or.inr (Or.inr (Or.inl q)))) (fun _ => br_c (fun q => h62 (Or.inr (Or.inr (Or.inr (Or.inl q))))) (fun _ => br_c (fun q => h62 (Or.inr (Or.inr (Or.inr (Or.inr (Or.inl q)))))) (fun _ => br_c (fun q => h62 (Or.inr (Or.inr (Or.inr (Or.inr (Or.inr (Or.inl q))))))) (fun _ => br_c (fun q => h62 (Or.inr (Or.inr (Or.inr (Or.inr (Or.inr (Or.inr q))))))) (fun _ => h67 0 (fun q => absurd rfl q))))))))
theorem mr_cA {post : Int32 → St1 → Prop} {i : Nat} {o n : Int32} (hi : i < 60) (h : ¬ o < 0 ∧ o ≤ 23 ∧ o.toInt8.toInt32 = o ∧ ¬ (o = 3 ∨ o = 4 ∨ o = 15 ∨ o = 18 ∨ o = 19 ∨ o = 21 ∨ o = 22) ∧ ¬ (o = 16 ∨ o = 17))
    (hp : post 1 (0, lv, fc, ou, yu, rm, mks, sc, md, rs, rn, pc, wc, upd a1 i o, upd a2 i n, a3, a4, a5, a6, a7, a8, a9, a10, a11, a12, a13, a14, a15, a16, a17, a18, a19, a20, a21, a22)) : wpX_code post (pr, lv, fc, ou, yu, rm, mks, sc, md, rs, rn, pc, wc, a1, a2, a3, a4, a5, a6, a7, a8, a9, a10, a11, a12, a13, a14, a15, a16, a17, a18, a19, a20, a21, a22) (nI i) o n :=
  mr_code hi h.1 h.2.1 h.2.2.1 (fun q => absurd q h.2.2.2.1) (fun q => absurd q h.2.2.2.2) hp
theorem mr_cB {post : Int32 → St1 → Prop} {i m : Nat} {o : Int32} (hi : i < 60) (hm : m < 4) (h : ¬ o < 0 ∧ o ≤ 23 ∧ o.toInt8.toInt32 = o ∧ ¬ (o = 16 ∨ o = 17))
    (hp : post 1 (0, lv, fc, ou, yu, rm, mks, sc, md, rs, rn, pc, wc, upd a1 i o, upd a2 i (nI m), a3, a4, a5, a6, a7, a8, a9, a10, a11, a12, a13, a14, a15, a16, a17, a18, a19, a20, a21, a22)) : wpX_code post (pr, lv, fc, ou, yu, rm, mks, sc, md, rs, rn, pc, wc, a1, a2, a3, a4, a5, a6, a7, a8, a9, a10, a11, a12, a13, a14, a15, a16, a17, a18, a19, a20, a21, a22) (nI i) o (nI m) :=
  mr_code hi h.1 h.2.1 h.2.2.1 (fun _ => ⟨nI_pos (by omega), nI_nlt (a := 3) (by omega) (by decide)⟩) (fun q => absurd q h.2.2.2) hp
theorem mr_cC {post : Int32 → St1 → Prop} {i m : Nat} {o : Int32} (hi : i < 60) (hm : m < 3) (h : ¬ o < 0 ∧ o ≤ 23 ∧ o.toInt8.toInt32 = o)
    (hp : post 1 (0, lv, fc, ou, yu, rm, mks, sc, md, rs, rn, pc, wc, upd a1 i o, upd a2 i (nI m), a3, a4, a5, a6, a7, a8, a9, a10, a11, a12, a13, a14, a15, a16, a17, a18, a19, a20, a21, a22)) : wpX_code post (pr, lv, fc, ou, yu, rm, mks, sc, md, rs, rn, pc, wc, a1, a2, a3, a4, a5, a6, a7, a8, a9, a10, a11, a12, a13, a14, a15, a16, a17, a18, a19, a20, a21, a22) (nI i) o (nI m) :=
  mr_code hi h.1 h.2.1 h.2.2 (fun _ => ⟨nI_pos (by omega), nI_nlt (a := 3) (by omega) (by decide)⟩) (fun _ => ⟨nI_pos (by omega), nI_le (b := 2) (by omega) (by decide)⟩) hp
end
/-- the maker: nothing used, no one above, all globals empty -/
theorem mr_init {post : St1 → Prop} {mc ms : Nat} (hc : 22 ≤ mc) (hs : 872 ≤ ms)
    (hp : ∀ b3 b4, (∀ j, j < 4 → b3 j < 0) → post (0, 2, 0, 0, 0, 0, 0, 0, 0, 0, 0, 0, 0, (fun _ => 0), (fun _ => 0), b3, b4, (fun _ => 0), (fun _ => 0), (fun _ => 0), (fun _ => 0), (fun _ => 0), (fun _ => 0), (fun _ => 0), (fun _ => 0), (fun _ => 0), (fun _ => 0), (fun _ => 0), (fun _ => 0), (fun _ => 0), (fun _ => 0), (fun _ => 0), (fun _ => 0), (fun _ => 0), (fun _ => 0))) :
    wpX_init post mc ms (0, 0, 0, 0, 0, 0, 0, 0, 0, 0, 0, 0, 0) := by
  unfold wpX_init
  dsimp only
  have h204 : ∀ b3, (∀ j, j < 4 → b3 j < 0) → ∃ n, wX_init_204 post mc ms 22 872 0 2 0 0 0 0 0 0 0 0 0 0 0 n 0 (fun _ => 0) (fun _ => 0) b3 (fun _ => 0) (fun _ => 0) (fun _ => 0) (fun _ => 0) (fun _ => 0) (fun _ => 0) (fun _ => 0) (fun _ => 0) (fun _ => 0) (fun _ => 0) (fun _ => 0) (fun _ => 0) (fun _ => 0) (fun _ => 0) (fun _ => 0) (fun _ => 0) (fun _ => 0) (fun _ => 0) (fun _ => 0) := fun b3 h =>
    pk_loop (fun n i s => wX_init_204 post mc ms 22 872 0 2 0 0 0 0 0 0 0 0 0 0 0 n (nI i) (fun _ => 0) (fun _ => 0) b3 s (fun _ => 0) (fun _ => 0) (fun _ => 0) (fun _ => 0) (fun _ => 0) (fun _ => 0) (fun _ => 0) (fun _ => 0) (fun _ => 0) (fun _ => 0) (fun _ => 0) (fun _ => 0) (fun _ => 0) (fun _ => 0) (fun _ => 0) (fun _ => 0) (fun _ => 0) (fun _ => 0)) (fun _ _ => True) 16 0 (fun _ => 0) (by omega) trivial (fun n s _ => pk_le 16 16 (fun _ => hp b3 s h) (fun z => absurd z (by omega)))
      (fun n i s hi _ hw => pk_le 16 i (fun z => absurd z (by omega)) (fun _ => ⟨pk_in i 16 hi, nm_e (nm_r (nI_1 i) (hw _ trivial))⟩))
  refine ⟨by omega, by omega, by omega, by omega, by omega, by omega, by omega, by omega, by omega, by omega, by omega, by omega, by omega, by omega, by omega, by omega, by omega, by omega, by omega, by omega, by omega, by omega, by omega, by omega, by omega, by omega, by omega, by omega, by omega, by omega, by omega, by omega, by omega, by omega, by omega, by omega, by omega, by omega, by omega, by omega, by omega, by omega, by omega, by omega, ?_⟩
  exact pk_loop (fun n i s => wX_init_184 post mc ms 22 872 0 2 0 0 0 0 0 0 0 0 0 0 0 n (nI i) (fun _ => 0) (fun _ => 0) s (fun _ => 0) (fun _ => 0) (fun _ => 0) (fun _ => 0) (fun _ => 0) (fun _ => 0) (fun _ => 0) (fun _ => 0) (fun _ => 0) (fun _ => 0) (fun _ => 0) (fun _ => 0) (fun _ => 0) (fun _ => 0) (fun _ => 0) (fun _ => 0) (fun _ => 0) (fun _ => 0) (fun _ => 0)) (fun i s => ∀ j, j < i → s j < 0) 4 0 (fun _ => 0) (by omega) (fun j hj => absurd hj (by omega)) (fun n s h => pk_le 4 4 (fun _ => h204 s h) (fun z => absurd z (by omega)))
      (fun n i s hi h hw => pk_le 4 i (fun z => absurd z (by omega)) (fun _ => ⟨pk_in i 4 hi, nm_e (nm_r (nI_1 i) (hw _ (by rw [nI_clamp (by omega)]; exact mr_fill (p := fun _ v => v < 0) h (by decide))))⟩))
end
section
/-! ===== one instruction of frame 0 ===== -/
section
variable {pr lv fc ou yu rm mks sc md rs rn pc wc : Int32} {a1 a2 a3 a4 a5 a6 a7 a8 a9 a10 a11 a12 a13 a14 a15 a16 a17 a18 a19 a20 a21 a22 : Nat → Int32}
/-- work, one by one: the instruction o at i takes t values and puts q -/
theorem mr_work {post : Int32 → St1 → Prop} {i d : Nat} {o n : Int32} (t q : Nat) (hpc : a11 0 = nI i) (hi : i < 60) (hsc : ¬ sc = 300) (hcp : lv = 2 → a6 i = 0) (ho : a1 i = o) (hn : a2 i = n) (hd : a14 0 = nI d)
    (ht : ∀ P : Int32 → Prop, P (nI t) → wpX_takenBy P (pr, lv, 1, ou, yu, rm, mks, sc, md, rs, rn, pc, wc, a1, a2, a3, a4, a5, a6, a7, a8, a9, a10, a11, a12, a13, a14, a15, a16, a17, a18, a19, a20, a21, a22) o) (hq : ∀ P : Int32 → Prop, P (nI q) → wpX_putBy P (pr, lv, 1, ou, yu, rm, mks, sc, md, rs, rn, pc, wc, a1, a2, a3, a4, a5, a6, a7, a8, a9, a10, a11, a12, a13, a14, a15, a16, a17, a18, a19, a20, a21, a22) o) (htd : t ≤ d) (hdq : d - t + q ≤ 6) (hd6 : d ≤ 6)
    (H : wpX_workOne (fun r u => match u with | (pr, lv, fc, ou, yu, rm, mks, sc, md, rs, rn, pc, wc, a1, a2, a3, a4, a5, a6, a7, a8, a9, a10, a11, a12, a13, a14, a15, a16, a17, a18, a19, a20, a21, a22) => ((r = (-1) → (wX_work_144 post r pr lv fc ou yu rm mks sc md rs rn pc wc a1 a2 a3 a4 a5 a6 a7 a8 a9 a10 a11 a12 a13 a14 a15 a16 a17 a18 a19 a20 a21 a22)) ∧ (¬ r = (-1) → (((r = 0 → (wX_work_144 post r pr lv fc ou yu rm mks sc md rs rn pc wc a1 a2 a3 a4 a5 a6 a7 a8 a9 a10 a11 a12 a13 a14 a15 a16 a17 a18 a19 a20 a21 a22)) ∧ (¬ r = 0 → (post r (pr, lv, fc, ou, yu, rm, mks, sc, md, rs, rn, pc, wc, a1, a2, a3, a4, a5, a6, a7, a8, a9, a10, a11, a12, a13, a14, a15, a16, a17, a18, a19, a20, a21, a22)))))))) (pr, lv, 1, ou, yu, rm, mks, sc, md, rs, rn, pc, wc, a1, a2, a3, a4, a5, a6, a7, a8, a9, a10, a11, a12, a13, a14, a15, a16, a17, a18, a19, a20, a21, a22) (nI i) o n) : wpX_work post (pr, lv, 1, ou, yu, rm, mks, sc, md, rs, rn, pc, wc, a1, a2, a3, a4, a5, a6, a7, a8, a9, a10, a11, a12, a13, a14, a15, a16, a17, a18, a19, a20, a21, a22) := by
  have v : vp_in (nI i) 60 := vp_in_nI hi (by decide)
  have v0 : vp_in 0 10 := pk_in 0 10 (by decide)
  have h69 : wX_work_69 post 0 (nI i) pr lv 1 ou yu rm mks sc md rs rn pc wc a1 a2 a3 a4 a5 a6 a7 a8 a9 a10 a11 a12 a13 a14 a15 a16 a17 a18 a19 a20 a21 a22 := by
    refine ⟨v, nm_r (mr_cl (by omega) ho) (ht _ ⟨v0, br_f ?_ ⟨v0, hq _ (br_t ?_ ⟨v, ?_⟩)⟩⟩)⟩
    · rw [mr_c0 hd]
      exact nI_nlt htd (by omega)
    · rw [mr_c0 hd, pk_sub htd, nI_add]
      exact nI_le (b := 6) hdq (by decide)
    · rw [mr_cl (by omega) hn]
      exact H
  unfold wpX_work
  refine mr_top ⟨v0, nm_r (mr_c0 hpc) (br_f (nI_pos (by omega)) (br_t (nI_le (b := 59) (by omega) (by decide)) (br_f hsc (br_c (fun h2 => ⟨v, br_t ?_ h69⟩) (fun _ => h69)))))⟩
  exact mr_cl (by omega) (hcp h2)
/-- the instructions that only move values -/
theorem mr_one {post : Int32 → St1 → Prop} {i : Nat} {o n : Int32} (h : ¬ o = 15 ∧ ¬ o = 16 ∧ ¬ o = 17 ∧ ¬ o = 19 ∧ ¬ o = 20 ∧ ¬ o = 0 ∧ (o < 8 ∨ 11 < o) ∧ ¬ o = 14 ∧ ¬ o = 23 ∧ ¬ o = 13)
    (H : wpX_moveValues (fun u => match u with | (pr, lv, fc, ou, yu, rm, mks, sc, md, rs, rn, pc, wc, a1, a2, a3, a4, a5, a6, a7, a8, a9, a10, a11, a12, a13, a14, a15, a16, a17, a18, a19, a20, a21, a22) => (post (-1) (pr, lv, fc, ou, yu, rm, mks, sc, md, rs, rn, pc, wc, a1, a2, a3, a4, a5, a6, a7, a8, a9, a10, a11, a12, a13, a14, a15, a16, a17, a18, a19, a20, a21, a22))) (pr, lv, 1, ou, yu, rm, mks, sc, md, rs, rn, pc, wc, a1, a2, a3, a4, a5, a6, a7, a8, a9, a10, upd a11 0 (nI (i + 1)), a12, a13, a14, a15, a16, a17, a18, a19, a20, a21, a22) o n) : wpX_workOne post (pr, lv, 1, ou, yu, rm, mks, sc, md, rs, rn, pc, wc, a1, a2, a3, a4, a5, a6, a7, a8, a9, a10, a11, a12, a13, a14, a15, a16, a17, a18, a19, a20, a21, a22) (nI i) o n := by
  obtain ⟨n1, n2, n3, n4, n5, n6, n7, n8, n9, n10⟩ := h
  have h176 : wX_workOne_176 post o n (nI i + 1) 0 pr lv 1 ou yu rm mks sc md rs rn pc wc a1 a2 a3 a4 a5 a6 a7 a8 a9 a10 a11 a12 a13 a14 a15 a16 a17 a18 a19 a20 a21 a22 := ⟨pk_in 0 10 (by decide), nm_r (mr_u0 (nI_1 i)) H⟩
  have h79 : wX_workOne_79 post (nI i) o n pr lv 1 ou yu rm mks sc md rs rn pc wc a1 a2 a3 a4 a5 a6 a7 a8 a9 a10 a11 a12 a13 a14 a15 a16 a17 a18 a19 a20 a21 a22 := br_f n8 (br_f n9 (mr_top (br_f n10 h176)))
  exact br_f n1 (br_f n2 (br_f n3 (br_f n4 (br_f n5 (br_f n6 (br_c (fun _ => h79) (fun z => br_t (n7.resolve_left z) h79)))))))
/-! methods that move values -/
theorem mr_pL {post : St1 → Prop} {d l : Nat} {s v : Int32} (hl : l < 4) (hd : a14 0 = nI d) (h6 : d < 6) (hs : a12 l = s) (hb : s.toInt8.toInt32 = s) (hv : a13 l = v)
    (hp : post (pr, lv, 1, ou, yu, rm, mks, sc, md, rs, rn, pc, wc, a1, a2, a3, a4, a5, a6, a7, a8, a9, a10, a11, a12, a13, upd a14 0 (nI (d + 1)), upd a15 d s, upd a16 d v, a17, a18, a19, a20, a21, a22)) : wpX_pushLocal post (pr, lv, 1, ou, yu, rm, mks, sc, md, rs, rn, pc, wc, a1, a2, a3, a4, a5, a6, a7, a8, a9, a10, a11, a12, a13, a14, a15, a16, a17, a18, a19, a20, a21, a22) (nI l) := by
  unfold wpX_pushLocal
  refine mr_top (nm_r (mr_m4 l) ⟨pk_in l 40 (by omega), pk_in l 40 (by omega), mr_push (s := s) (v := v) hd h6 ?_ ?_ hp⟩)
  · rw [mr_cl (by omega) hs]
    exact hb
  · exact mr_cl (by omega) hv
theorem mr_pA {post : St1 → Prop} {d : Nat} {s v : Int32} (hd : a14 0 = nI (d + 1)) (h6 : d < 5) (hs : a15 d = s) (hb : s.toInt8.toInt32 = s) (hv : a16 d = v)
    (hp : post (pr, lv, 1, ou, yu, rm, mks, sc, md, rs, rn, pc, wc, a1, a2, a3, a4, a5, a6, a7, a8, a9, a10, a11, a12, a13, upd a14 0 (nI (d + 2)), upd a15 (d + 1) s, upd a16 (d + 1) v, a17, a18, a19, a20, a21, a22)) : wpX_pushAgain post (pr, lv, 1, ou, yu, rm, mks, sc, md, rs, rn, pc, wc, a1, a2, a3, a4, a5, a6, a7, a8, a9, a10, a11, a12, a13, a14, a15, a16, a17, a18, a19, a20, a21, a22) := by
  unfold wpX_pushAgain
  refine mr_ft0 hd ⟨pk_in d 60 (by omega), pk_in d 60 (by omega), mr_push (s := s) (v := v) hd (by omega) ?_ ?_ hp⟩
  · rw [mr_cl (by omega) hs]
    exact hb
  · exact mr_cl (by omega) hv
theorem mr_sw {post : St1 → Prop} {d : Nat} {s v s' v' : Int32} (hd : a14 0 = nI (d + 2)) (h6 : d < 5) (hs : a15 (d + 1) = s) (hb : s.toInt8.toInt32 = s) (hv : a16 (d + 1) = v) (hs' : a15 d = s') (hb' : s'.toInt8.toInt32 = s') (hv' : a16 d = v')
    (hp : post (pr, lv, 1, ou, yu, rm, mks, sc, md, rs, rn, pc, wc, a1, a2, a3, a4, a5, a6, a7, a8, a9, a10, a11, a12, a13, a14, upd (upd a15 (d + 1) s') d s, upd (upd a16 (d + 1) v') d v, a17, a18, a19, a20, a21, a22)) : wpX_swap post (pr, lv, 1, ou, yu, rm, mks, sc, md, rs, rn, pc, wc, a1, a2, a3, a4, a5, a6, a7, a8, a9, a10, a11, a12, a13, a14, a15, a16, a17, a18, a19, a20, a21, a22) := by
  have w1 : vp_in (nI (d + 1)) 60 := vp_in_nI (by omega) (by decide)
  have w0 : vp_in (nI d) 60 := vp_in_nI (by omega) (by decide)
  unfold wpX_swap
  refine mr_ft0 hd (mr_ft1 hd ⟨w1, nm_r (mr_cl (by omega) hs) ⟨w1, nm_r (mr_cl (by omega) hv) ⟨w0, w1, nm_r (mr_uk (w := s') rfl (by omega) ?_) ⟨w0, w1, nm_r (mr_uk (w := v') rfl (by omega) ?_) ⟨w0, nm_r (mr_uk (w := s) rfl (by omega) ?_) ⟨w0, nm_r (mr_uk (w := v) rfl (by omega) rfl) hp⟩⟩⟩⟩⟩⟩)
  · rw [mr_cl (by omega) hs', vp_nar_byte]
    exact hb'
  · exact mr_cl (by omega) hv'
  · rw [vp_nar_byte]
    exact hb
theorem mr_c31 {post : St1 → Prop} {d : Nat} {b : Int32} (hd : a14 0 = nI (d + 2)) (h6 : d < 5) (hb : b = 0 ∨ b = 1)
    (hp : post (pr, lv, 1, ou, yu, rm, mks, sc, md, rs, rn, pc, wc, a1, a2, a3, a4, a5, a6, a7, a8, a9, a10, a11, a12, a13, upd (upd a14 0 (nI d)) 0 (nI (d + 1)), upd a15 d 1, upd a16 d b, a17, a18, a19, a20, a21, a22)) : wX_compare_31 post b pr lv 1 ou yu rm mks sc md rs rn pc wc a1 a2 a3 a4 a5 a6 a7 a8 a9 a10 a11 a12 a13 a14 a15 a16 a17 a18 a19 a20 a21 a22 := by
  have h48 : ∀ b14 : Nat → Int32, b14 0 = nI d → post (pr, lv, 1, ou, yu, rm, mks, sc, md, rs, rn, pc, wc, a1, a2, a3, a4, a5, a6, a7, a8, a9, a10, a11, a12, a13, upd b14 0 (nI (d + 1)), upd a15 d 1, upd a16 d b, a17, a18, a19, a20, a21, a22) → wX_compare_48 post b 1 pr lv 1 ou yu rm mks sc md rs rn pc wc a1 a2 a3 a4 a5 a6 a7 a8 a9 a10 a11 a12 a13 b14 a15 a16 a17 a18 a19 a20 a21 a22 := by
    intro b14 h hq
    unfold wX_compare_48
    exact mr_push h (by omega) (by decide) rfl hq
  unfold wX_compare_31
  refine mr_dr2 hd (by omega) ?_
  rcases hb with rfl | rfl
  · exact br_t rfl (h48 _ pk_us hp)
  · exact br_f (by decide) (h48 _ pk_us hp)
theorem mr_cmp {post : St1 → Prop} {d : Nat} {s v s' v' w : Int32} (hd : a14 0 = nI (d + 2)) (h6 : d < 5) (hs : a15 (d + 1) = s) (hv : a16 (d + 1) = v) (hs' : a15 d = s') (hv' : a16 d = v') (hw : w = if s = s' ∧ v = v' then 1 else 0)
    (hp : post (pr, lv, 1, ou, yu, rm, mks, sc, md, rs, rn, pc, wc, a1, a2, a3, a4, a5, a6, a7, a8, a9, a10, a11, a12, a13, upd (upd a14 0 (nI d)) 0 (nI (d + 1)), upd a15 d 1, upd a16 d w, a17, a18, a19, a20, a21, a22)) : wpX_compare post (pr, lv, 1, ou, yu, rm, mks, sc, md, rs, rn, pc, wc, a1, a2, a3, a4, a5, a6, a7, a8, a9, a10, a11, a12, a13, a14, a15, a16, a17, a18, a19, a20, a21, a22) := by
  unfold wpX_compare
  refine mr_sa0 hd (by omega) hs (mr_sa1 hd (by omega) hs' (br_c (fun e => ?_) (fun e => ?_)))
  · refine mr_na0 hd (by omega) hv (mr_na1 hd (by omega) hv' (br_c (fun g => ?_) (fun g => ?_)))
    · rw [if_pos ⟨e, g⟩] at hw
      subst hw
      exact mr_c31 hd h6 (Or.inr rfl) hp
    · rw [if_neg (fun z => g z.2)] at hw
      subst hw
      unfold wX_compare_30
      exact mr_c31 hd h6 (Or.inl rfl) hp
  · rw [if_neg (fun z => e z.1)] at hw
    subst hw
    unfold wX_compare_30
    exact mr_c31 hd h6 (Or.inl rfl) hp
theorem mr_tkS {post : St1 → Prop} {d l : Nat} {s v : Int32} (hl : l < 4) (hd : a14 0 = nI (d + 1)) (h6 : d < 6) (hs : a15 d = s) (hb : s.toInt8.toInt32 = s) (hv : a16 d = v)
    (hp : post (pr, lv, 1, ou, yu, rm, mks, sc, md, rs, rn, pc, wc, a1, a2, a3, a4, a5, a6, a7, a8, a9, a10, a11, upd a12 l s, upd a13 l v, upd a14 0 (nI d), a15, a16, a17, a18, a19, a20, a21, a22)) : wX_moveValues_135 post 4 (nI l) pr lv 1 ou yu rm mks sc md rs rn pc wc a1 a2 a3 a4 a5 a6 a7 a8 a9 a10 a11 a12 a13 a14 a15 a16 a17 a18 a19 a20 a21 a22 := by
  unfold wX_moveValues_135 wpX_take
  exact mr_sa0 hd h6 hs (mr_na0 hd h6 hv (mr_dr1 hd h6 (br_t rfl (mr_setL hl hb rfl (br_f (by decide) hp)))))
theorem mr_tkG {post : St1 → Prop} {d l : Nat} {s v : Int32} (hl : l < 4) (hd : a14 0 = nI (d + 1)) (h6 : d < 6) (hs : a15 d = s) (hb : s.toInt8.toInt32 = s) (hv : a16 d = v)
    (hp : post (pr, lv, 1, ou, yu, rm, mks, sc, md, rs, rn, pc, wc, a1, a2, a3, a4, a5, a6, a7, a8, upd a9 l s, upd a10 l v, a11, a12, a13, upd a14 0 (nI d), a15, a16, a17, a18, a19, a20, a21, a22)) : wX_moveValues_135 post 22 (nI l) pr lv 1 ou yu rm mks sc md rs rn pc wc a1 a2 a3 a4 a5 a6 a7 a8 a9 a10 a11 a12 a13 a14 a15 a16 a17 a18 a19 a20 a21 a22 := by
  unfold wX_moveValues_135 wpX_take
  exact mr_sa0 hd h6 hs (mr_na0 hd h6 hv (mr_dr1 hd h6 (br_f (by decide) (br_t rfl ⟨pk_in l 4 hl, nm_r (mr_uk rfl (by omega) hb) ⟨pk_in l 4 hl, nm_r (mr_uk rfl (by omega) rfl) hp⟩⟩))))
theorem mr_tkP {post : St1 → Prop} {d : Nat} {n : Int32} (hd : a14 0 = nI (d + 1)) (h6 : d < 6)
    (hp : post (pr, lv, 1, ou, yu, rm, mks, sc, md, rs, rn, pc, wc, a1, a2, a3, a4, a5, a6, a7, a8, a9, a10, a11, a12, a13, upd a14 0 (nI d), a15, a16, a17, a18, a19, a20, a21, a22)) : wX_moveValues_135 post 5 n pr lv 1 ou yu rm mks sc md rs rn pc wc a1 a2 a3 a4 a5 a6 a7 a8 a9 a10 a11 a12 a13 a14 a15 a16 a17 a18 a19 a20 a21 a22 := by
  unfold wX_moveValues_135 wpX_take
  exact mr_sa0 hd h6 rfl (mr_na0 hd h6 rfl (mr_dr1 hd h6 (br_f (by decide) (br_f (by decide) hp))))
/-! push-like -/
theorem mr_wPush {post : Int32 → St1 → Prop} {i d : Nat} {v : Int32} (hpc : a11 0 = nI i) (hi : i < 60) (hsc : ¬ sc = 300) (hcp : lv = 2 → a6 i = 0) (ho : a1 i = 1) (hn : a2 i = v) (hd : a14 0 = nI d) (h6 : d < 6)
    (hp : post (-1) (pr, lv, 1, ou, yu, rm, mks, sc + 1, md, rs, rn, pc, wc, a1, a2, a3, a4, a5, a6, a7, a8, a9, a10, upd a11 0 (nI (i + 1)), a12, a13, upd a14 0 (nI (d + 1)), upd a15 d 1, upd a16 d v, a17, a18, a19, a20, a21, a22)) : wpX_work post (pr, lv, 1, ou, yu, rm, mks, sc, md, rs, rn, pc, wc, a1, a2, a3, a4, a5, a6, a7, a8, a9, a10, a11, a12, a13, a14, a15, a16, a17, a18, a19, a20, a21, a22) := by
  refine mr_work 0 1 hpc hi hsc hcp ho hn hd (fun P h => ?_) (fun P h => ?_) (by omega) (by omega) (by omega) (mr_one (by decide) ?_)
  · repeat (first | exact h | refine br_t (by decide) ?_ | refine br_f (by decide) ?_)
  · repeat (first | exact h | refine br_t (by decide) ?_ | refine br_f (by decide) ?_)
  · exact br_t rfl (mr_push hd h6 (by decide) rfl (br_t rfl (nm_e hp)))
theorem mr_wEmpty {post : Int32 → St1 → Prop} {i d : Nat} (hpc : a11 0 = nI i) (hi : i < 60) (hsc : ¬ sc = 300) (hcp : lv = 2 → a6 i = 0) (ho : a1 i = 2) (hd : a14 0 = nI d) (h6 : d < 6)
    (hp : post (-1) (pr, lv, 1, ou, yu, rm, mks, sc + 1, md, rs, rn, pc, wc, a1, a2, a3, a4, a5, a6, a7, a8, a9, a10, upd a11 0 (nI (i + 1)), a12, a13, upd a14 0 (nI (d + 1)), upd a15 d 0, upd a16 d 0, a17, a18, a19, a20, a21, a22)) : wpX_work post (pr, lv, 1, ou, yu, rm, mks, sc, md, rs, rn, pc, wc, a1, a2, a3, a4, a5, a6, a7, a8, a9, a10, a11, a12, a13, a14, a15, a16, a17, a18, a19, a20, a21, a22) := by
  refine mr_work 0 1 hpc hi hsc hcp ho rfl hd (fun P h => ?_) (fun P h => ?_) (by omega) (by omega) (by omega) (mr_one (by decide) ?_)
  · repeat (first | exact h | refine br_t (by decide) ?_ | refine br_f (by decide) ?_)
  · repeat (first | exact h | refine br_t (by decide) ?_ | refine br_f (by decide) ?_)
  · exact br_f (by decide) (br_t rfl (mr_push hd h6 (by decide) rfl (br_t rfl (nm_e hp))))
theorem mr_wLoad {post : Int32 → St1 → Prop} {i d l : Nat} {s v : Int32} (hpc : a11 0 = nI i) (hi : i < 60) (hsc : ¬ sc = 300) (hcp : lv = 2 → a6 i = 0) (ho : a1 i = 3) (hn : a2 i = nI l) (hl : l < 4) (hd : a14 0 = nI d) (h6 : d < 6)
    (hs : a12 l = s) (hb : s.toInt8.toInt32 = s) (hv : a13 l = v)
    (hp : post (-1) (pr, lv, 1, ou, yu, rm, mks, sc + 1, md, rs, rn, pc, wc, a1, a2, a3, a4, a5, a6, a7, a8, a9, a10, upd a11 0 (nI (i + 1)), a12, a13, upd a14 0 (nI (d + 1)), upd a15 d s, upd a16 d v, a17, a18, a19, a20, a21, a22)) : wpX_work post (pr, lv, 1, ou, yu, rm, mks, sc, md, rs, rn, pc, wc, a1, a2, a3, a4, a5, a6, a7, a8, a9, a10, a11, a12, a13, a14, a15, a16, a17, a18, a19, a20, a21, a22) := by
  refine mr_work 0 1 hpc hi hsc hcp ho hn hd (fun P h => ?_) (fun P h => ?_) (by omega) (by omega) (by omega) (mr_one (by decide) ?_)
  · repeat (first | exact h | refine br_t (by decide) ?_ | refine br_f (by decide) ?_)
  · repeat (first | exact h | refine br_t (by decide) ?_ | refine br_f (by decide) ?_)
  · exact br_f (by decide) (br_f (by decide) (br_t rfl (mr_pL hl hd h6 hs hb hv (br_t rfl (nm_e hp)))))
theorem mr_wTake {post : Int32 → St1 → Prop} {i d l : Nat} {s v : Int32} (hpc : a11 0 = nI i) (hi : i < 60) (hsc : ¬ sc = 300) (hcp : lv = 2 → a6 i = 0) (ho : a1 i = 21) (hn : a2 i = nI l) (hl : l < 4) (hd : a14 0 = nI d) (h6 : d < 6)
    (hs : a9 l = s) (hb : s.toInt8.toInt32 = s) (hv : a10 l = v)
    (hp : post (-1) (pr, lv, 1, ou, yu, rm, mks, sc + 1, md, rs, rn, pc, wc, a1, a2, a3, a4, a5, a6, a7, a8, a9, a10, upd a11 0 (nI (i + 1)), a12, a13, upd a14 0 (nI (d + 1)), upd a15 d s, upd a16 d v, a17, a18, a19, a20, a21, a22)) : wpX_work post (pr, lv, 1, ou, yu, rm, mks, sc, md, rs, rn, pc, wc, a1, a2, a3, a4, a5, a6, a7, a8, a9, a10, a11, a12, a13, a14, a15, a16, a17, a18, a19, a20, a21, a22) := by
  refine mr_work 0 1 hpc hi hsc hcp ho hn hd (fun P h => ?_) (fun P h => ?_) (by omega) (by omega) (by omega) (mr_one (by decide) ?_)
  · repeat (first | exact h | refine br_t (by decide) ?_ | refine br_f (by decide) ?_)
  · repeat (first | exact h | refine br_t (by decide) ?_ | refine br_f (by decide) ?_)
  · refine br_f (by decide) (br_f (by decide) (br_f (by decide) (br_t rfl ⟨pk_in l 4 hl, pk_in l 4 hl, mr_push (s := s) (v := v) hd h6 ?_ ?_ (br_t rfl (nm_e hp))⟩)))
    · rw [mr_cl (by omega) hs]
      exact hb
    · exact mr_cl (by omega) hv
theorem mr_wDup {post : Int32 → St1 → Prop} {i d : Nat} {s v : Int32} (hpc : a11 0 = nI i) (hi : i < 60) (hsc : ¬ sc = 300) (hcp : lv = 2 → a6 i = 0) (ho : a1 i = 6) (hd : a14 0 = nI (d + 1)) (h6 : d < 5)
    (hs : a15 d = s) (hb : s.toInt8.toInt32 = s) (hv : a16 d = v)
    (hp : post (-1) (pr, lv, 1, ou, yu, rm, mks, sc + 1, md, rs, rn, pc, wc, a1, a2, a3, a4, a5, a6, a7, a8, a9, a10, upd a11 0 (nI (i + 1)), a12, a13, upd a14 0 (nI (d + 2)), upd a15 (d + 1) s, upd a16 (d + 1) v, a17, a18, a19, a20, a21, a22)) : wpX_work post (pr, lv, 1, ou, yu, rm, mks, sc, md, rs, rn, pc, wc, a1, a2, a3, a4, a5, a6, a7, a8, a9, a10, a11, a12, a13, a14, a15, a16, a17, a18, a19, a20, a21, a22) := by
  refine mr_work 1 2 hpc hi hsc hcp ho rfl hd (fun P h => ?_) (fun P h => ?_) (by omega) (by omega) (by omega) (mr_one (by decide) ?_)
  · repeat (first | exact h | refine br_t (by decide) ?_ | refine br_f (by decide) ?_)
  · repeat (first | exact h | refine br_t (by decide) ?_ | refine br_f (by decide) ?_)
  · exact br_f (by decide) (br_f (by decide) (br_f (by decide) (br_f (by decide) (br_t rfl (mr_pA hd h6 hs hb hv (br_t rfl (nm_e hp)))))))
theorem mr_wSwap {post : Int32 → St1 → Prop} {i d : Nat} {s v s' v' : Int32} (hpc : a11 0 = nI i) (hi : i < 60) (hsc : ¬ sc = 300) (hcp : lv = 2 → a6 i = 0) (ho : a1 i = 7) (hd : a14 0 = nI (d + 2)) (h6 : d < 5)
    (hs : a15 (d + 1) = s) (hb : s.toInt8.toInt32 = s) (hv : a16 (d + 1) = v) (hs' : a15 d = s') (hb' : s'.toInt8.toInt32 = s') (hv' : a16 d = v')
    (hp : post (-1) (pr, lv, 1, ou, yu, rm, mks, sc + 1, md, rs, rn, pc, wc, a1, a2, a3, a4, a5, a6, a7, a8, a9, a10, upd a11 0 (nI (i + 1)), a12, a13, a14, upd (upd a15 (d + 1) s') d s, upd (upd a16 (d + 1) v') d v, a17, a18, a19, a20, a21, a22)) : wpX_work post (pr, lv, 1, ou, yu, rm, mks, sc, md, rs, rn, pc, wc, a1, a2, a3, a4, a5, a6, a7, a8, a9, a10, a11, a12, a13, a14, a15, a16, a17, a18, a19, a20, a21, a22) := by
  refine mr_work 2 2 hpc hi hsc hcp ho rfl hd (fun P h => ?_) (fun P h => ?_) (by omega) (by omega) (by omega) (mr_one (by decide) ?_)
  · repeat (first | exact h | refine br_t (by decide) ?_ | refine br_f (by decide) ?_)
  · repeat (first | exact h | refine br_t (by decide) ?_ | refine br_f (by decide) ?_)
  · exact br_f (by decide) (br_f (by decide) (br_f (by decide) (br_f (by decide) (br_f (by decide) (br_t rfl (mr_sw hd h6 hs hb hv hs' hb' hv' (br_t rfl (nm_e hp))))))))
theorem mr_wSame {post : Int32 → St1 → Prop} {i d : Nat} {s v s' v' w : Int32} (hpc : a11 0 = nI i) (hi : i < 60) (hsc : ¬ sc = 300) (hcp : lv = 2 → a6 i = 0) (ho : a1 i = 12) (hd : a14 0 = nI (d + 2)) (h6 : d < 5)
    (hs : a15 (d + 1) = s) (hv : a16 (d + 1) = v) (hs' : a15 d = s') (hv' : a16 d = v') (hw : w = if s = s' ∧ v = v' then 1 else 0)
    (hp : post (-1) (pr, lv, 1, ou, yu, rm, mks, sc + 1, md, rs, rn, pc, wc, a1, a2, a3, a4, a5, a6, a7, a8, a9, a10, upd a11 0 (nI (i + 1)), a12, a13, upd (upd a14 0 (nI d)) 0 (nI (d + 1)), upd a15 d 1, upd a16 d w, a17, a18, a19, a20, a21, a22)) : wpX_work post (pr, lv, 1, ou, yu, rm, mks, sc, md, rs, rn, pc, wc, a1, a2, a3, a4, a5, a6, a7, a8, a9, a10, a11, a12, a13, a14, a15, a16, a17, a18, a19, a20, a21, a22) := by
  refine mr_work 2 1 hpc hi hsc hcp ho rfl hd (fun P h => ?_) (fun P h => ?_) (by omega) (by omega) (by omega) (mr_one (by decide) ?_)
  · repeat (first | exact h | refine br_t (by decide) ?_ | refine br_f (by decide) ?_)
  · repeat (first | exact h | refine br_t (by decide) ?_ | refine br_f (by decide) ?_)
  · exact br_f (by decide) (br_f (by decide) (br_f (by decide) (br_f (by decide) (br_f (by decide) (br_f (by decide) (br_t rfl (mr_cmp hd h6 hs hv hs' hv' hw (br_t rfl (nm_e hp)))))))))
theorem mr_wStore {post : Int32 → St1 → Prop} {i d l : Nat} {s v : Int32} (hpc : a11 0 = nI i) (hi : i < 60) (hsc : ¬ sc = 300) (hcp : lv = 2 → a6 i = 0) (ho : a1 i = 4) (hn : a2 i = nI l) (hl : l < 4) (hd : a14 0 = nI (d + 1)) (h6 : d < 6)
    (hs : a15 d = s) (hb : s.toInt8.toInt32 = s) (hv : a16 d = v)
    (hp : post (-1) (pr, lv, 1, ou, yu, rm, mks, sc + 1, md, rs, rn, pc, wc, a1, a2, a3, a4, a5, a6, a7, a8, a9, a10, upd a11 0 (nI (i + 1)), upd a12 l s, upd a13 l v, upd a14 0 (nI d), a15, a16, a17, a18, a19, a20, a21, a22)) : wpX_work post (pr, lv, 1, ou, yu, rm, mks, sc, md, rs, rn, pc, wc, a1, a2, a3, a4, a5, a6, a7, a8, a9, a10, a11, a12, a13, a14, a15, a16, a17, a18, a19, a20, a21, a22) := by
  refine mr_work 1 0 hpc hi hsc hcp ho hn hd (fun P h => ?_) (fun P h => ?_) (by omega) (by omega) (by omega) (mr_one (by decide) ?_)
  · repeat (first | exact h | refine br_t (by decide) ?_ | refine br_f (by decide) ?_)
  · repeat (first | exact h | refine br_t (by decide) ?_ | refine br_f (by decide) ?_)
  · exact br_f (by decide) (br_f (by decide) (br_f (by decide) (br_f (by decide) (br_f (by decide) (br_f (by decide) (br_f (by decide) (br_f (by decide) (br_t rfl (mr_tkS hl hd h6 hs hb hv (br_t rfl (nm_e hp)))))))))))
theorem mr_wGive {post : Int32 → St1 → Prop} {i d l : Nat} {s v : Int32} (hpc : a11 0 = nI i) (hi : i < 60) (hsc : ¬ sc = 300) (hcp : lv = 2 → a6 i = 0) (ho : a1 i = 22) (hn : a2 i = nI l) (hl : l < 4) (hd : a14 0 = nI (d + 1)) (h6 : d < 6)
    (hs : a15 d = s) (hb : s.toInt8.toInt32 = s) (hv : a16 d = v)
    (hp : post (-1) (pr, lv, 1, ou, yu, rm, mks, sc + 1, md, rs, rn, pc, wc, a1, a2, a3, a4, a5, a6, a7, a8, upd a9 l s, upd a10 l v, upd a11 0 (nI (i + 1)), a12, a13, upd a14 0 (nI d), a15, a16, a17, a18, a19, a20, a21, a22)) : wpX_work post (pr, lv, 1, ou, yu, rm, mks, sc, md, rs, rn, pc, wc, a1, a2, a3, a4, a5, a6, a7, a8, a9, a10, a11, a12, a13, a14, a15, a16, a17, a18, a19, a20, a21, a22) := by
  refine mr_work 1 0 hpc hi hsc hcp ho hn hd (fun P h => ?_) (fun P h => ?_) (by omega) (by omega) (by omega) (mr_one (by decide) ?_)
  · repeat (first | exact h | refine br_t (by decide) ?_ | refine br_f (by decide) ?_)
  · repeat (first | exact h | refine br_t (by decide) ?_ | refine br_f (by decide) ?_)
  · exact br_f (by decide) (br_f (by decide) (br_f (by decide) (br_f (by decide) (br_f (by decide) (br_f (by decide) (br_f (by decide) (br_f (by decide) (br_f (by decide) (br_t rfl (mr_tkG hl hd h6 hs hb hv (br_t rfl (nm_e hp))))))))))))
theorem mr_wPop {post : Int32 → St1 → Prop} {i d : Nat} (hpc : a11 0 = nI i) (hi : i < 60) (hsc : ¬ sc = 300) (hcp : lv = 2 → a6 i = 0) (ho : a1 i = 5) (hd : a14 0 = nI (d + 1)) (h6 : d < 6)
    (hp : post (-1) (pr, lv, 1, ou, yu, rm, mks, sc + 1, md, rs, rn, pc, wc, a1, a2, a3, a4, a5, a6, a7, a8, a9, a10, upd a11 0 (nI (i + 1)), a12, a13, upd a14 0 (nI d), a15, a16, a17, a18, a19, a20, a21, a22)) : wpX_work post (pr, lv, 1, ou, yu, rm, mks, sc, md, rs, rn, pc, wc, a1, a2, a3, a4, a5, a6, a7, a8, a9, a10, a11, a12, a13, a14, a15, a16, a17, a18, a19, a20, a21, a22) := by
  refine mr_work 1 0 hpc hi hsc hcp ho rfl hd (fun P h => ?_) (fun P h => ?_) (by omega) (by omega) (by omega) (mr_one (by decide) ?_)
  · repeat (first | exact h | refine br_t (by decide) ?_ | refine br_f (by decide) ?_)
  · repeat (first | exact h | refine br_t (by decide) ?_ | refine br_f (by decide) ?_)
  · exact br_f (by decide) (br_f (by decide) (br_f (by decide) (br_f (by decide) (br_f (by decide) (br_f (by decide) (br_f (by decide) (br_f (by decide) (br_f (by decide) (br_f (by decide) (br_t rfl (mr_tkP hd h6 (br_t rfl (nm_e hp)))))))))))))
end
end
section
/-! ===== the other instructions of frame 0 ===== -/
/-- what ADD, SUB, MUL, LESS give -/
def mr_res (o p q : Int32) : Int32 := if o = 8 then p + q else if o = 9 then p - q else if o = 10 then p * q else if q ≤ p then 0 else 1
section
variable {pr lv fc ou yu rm mks sc md rs rn pc wc : Int32} {a1 a2 a3 a4 a5 a6 a7 a8 a9 a10 a11 a12 a13 a14 a15 a16 a17 a18 a19 a20 a21 a22 : Nat → Int32}
theorem mr_next {P : (Nat → Int32) → Prop} {i : Nat} (hpc : a11 0 = nI i) (h : P (upd a11 0 (nI (i + 1)))) : ∀ x, x = upd a11 (0 : Int32).toNatClampNeg (a11 (0 : Int32).toNatClampNeg + 1) → P x :=
  nm_r (mr_u0 (by rw [mr_c0 hpc, nI_1])) h
/-- the couple that takes and puts -/
theorem mr_wComb {post : Int32 → St1 → Prop} {i d : Nat} {o p q w : Int32} (hpc : a11 0 = nI i) (hi : i < 60) (hsc : ¬ sc = 300) (hcp : lv = 2 → a6 i = 0) (ho : a1 i = o) (ho8 : ¬ o < 8) (ho11 : ¬ 11 < o) (hd : a14 0 = nI (d + 2)) (h6 : d < 5)
    (hs : a15 (d + 1) = 1) (hq : a16 (d + 1) = q) (hs' : a15 d = 1) (hq' : a16 d = p) (hw : w = mr_res o p q)
    (hp : post (-1) (pr, lv, 1, ou, yu, rm, mks, sc + 1, md, rs, rn, pc, wc, a1, a2, a3, a4, a5, a6, a7, a8, a9, a10, upd a11 0 (nI (i + 1)), a12, a13, upd (upd a14 0 (nI d)) 0 (nI (d + 1)), upd a15 d 1, upd a16 d w, a17, a18, a19, a20, a21, a22)) : wpX_work post (pr, lv, 1, ou, yu, rm, mks, sc, md, rs, rn, pc, wc, a1, a2, a3, a4, a5, a6, a7, a8, a9, a10, a11, a12, a13, a14, a15, a16, a17, a18, a19, a20, a21, a22) := by
  obtain ⟨k, hk, rfl⟩ : ∃ k : Nat, k < 4 ∧ o = nI (8 + k) := by
    obtain ⟨j, hj, e⟩ := nI_of2 (x := o) (M := 11) (n := 11) (by decide) (fun z => ho8 (Int32.lt_trans z (by decide))) (Int32.not_lt.mp ho11)
    subst e
    have : ¬ j < 8 := fun z => ho8 (nI_lt (b := 8) z (by decide))
    exact ⟨j - 8, by omega, by rw [show 8 + (j - 8) = j by omega]⟩
  have hc : ∀ z, z = w → wX_combine_78 (fun r u => match u with | (pr, lv, fc, ou, yu, rm, mks, sc, md, rs, rn, pc, wc, a1, a2, a3, a4, a5, a6, a7, a8, a9, a10, a11, a12, a13, a14, a15, a16, a17, a18, a19, a20, a21, a22) => ((r = (-1) → (wX_work_144 post r pr lv fc ou yu rm mks sc md rs rn pc wc a1 a2 a3 a4 a5 a6 a7 a8 a9 a10 a11 a12 a13 a14 a15 a16 a17 a18 a19 a20 a21 a22)) ∧ (¬ r = (-1) → (((r = 0 → (wX_work_144 post r pr lv fc ou yu rm mks sc md rs rn pc wc a1 a2 a3 a4 a5 a6 a7 a8 a9 a10 a11 a12 a13 a14 a15 a16 a17 a18 a19 a20 a21 a22)) ∧ (¬ r = 0 → (post r (pr, lv, fc, ou, yu, rm, mks, sc, md, rs, rn, pc, wc, a1, a2, a3, a4, a5, a6, a7, a8, a9, a10, a11, a12, a13, a14, a15, a16, a17, a18, a19, a20, a21, a22)))))))) z pr lv 1 ou yu rm mks sc md rs rn pc wc a1 a2 a3 a4 a5 a6 a7 a8 a9 a10 a11 a12 a13 a14 a15 a16 a17 a18 a19 a20 a21 a22 := by
    intro z hz
    subst hz
    unfold wX_combine_78
    exact mr_dr2 hd (by omega) (mr_push pk_us (by omega) (by decide) rfl (mr_top ⟨pk_in 0 10 (by decide), pk_in 0 10 (by decide), mr_next hpc (br_t rfl (nm_e hp))⟩))
  refine mr_work 2 1 hpc hi hsc hcp ho rfl hd (fun P h => ?_) (fun P h => ?_) (by omega) (by omega) (by omega) ?_
  · rcases mr_four hk with rfl | rfl | rfl | rfl
    all_goals repeat (first | exact h | refine br_t (by decide) ?_ | refine br_f (by decide) ?_)
  · rcases mr_four hk with rfl | rfl | rfl | rfl
    all_goals repeat (first | exact h | refine br_t (by decide) ?_ | refine br_f (by decide) ?_)
  · have hm : wpX_combine (fun r u => match u with | (pr, lv, fc, ou, yu, rm, mks, sc, md, rs, rn, pc, wc, a1, a2, a3, a4, a5, a6, a7, a8, a9, a10, a11, a12, a13, a14, a15, a16, a17, a18, a19, a20, a21, a22) => ((r = (-1) → (wX_work_144 post r pr lv fc ou yu rm mks sc md rs rn pc wc a1 a2 a3 a4 a5 a6 a7 a8 a9 a10 a11 a12 a13 a14 a15 a16 a17 a18 a19 a20 a21 a22)) ∧ (¬ r = (-1) → (((r = 0 → (wX_work_144 post r pr lv fc ou yu rm mks sc md rs rn pc wc a1 a2 a3 a4 a5 a6 a7 a8 a9 a10 a11 a12 a13 a14 a15 a16 a17 a18 a19 a20 a21 a22)) ∧ (¬ r = 0 → (post r (pr, lv, fc, ou, yu, rm, mks, sc, md, rs, rn, pc, wc, a1, a2, a3, a4, a5, a6, a7, a8, a9, a10, a11, a12, a13, a14, a15, a16, a17, a18, a19, a20, a21, a22)))))))) (pr, lv, 1, ou, yu, rm, mks, sc, md, rs, rn, pc, wc, a1, a2, a3, a4, a5, a6, a7, a8, a9, a10, a11, a12, a13, a14, a15, a16, a17, a18, a19, a20, a21, a22) (nI (8 + k)) := by
      unfold wpX_combine
      refine mr_sa0 hd (by omega) hs (br_t rfl (mr_sa1 hd (by omega) hs' (br_t rfl (mr_na1 hd (by omega) hq' (mr_na0 hd (by omega) hq ?_)))))
      unfold mr_res at hw
      refine br_c (fun e => hc _ ?_) (fun e => br_c (fun e2 => hc _ ?_) (fun e2 => br_c (fun e3 => hc _ ?_) (fun e3 => br_c (fun e4 => hc _ ?_) (fun e4 => hc _ ?_))))
      · rw [hw, if_pos e]
      · rw [hw, if_neg e, if_pos e2]
      · rw [hw, if_neg e, if_neg e2, if_pos e3]
      · rw [hw, if_neg e, if_neg e2, if_neg e3, if_pos e4]
      · rw [hw, if_neg e, if_neg e2, if_neg e3, if_neg e4]
    have n0 : ∀ x : Nat, x < 2 ^ 31 → ¬ 8 + k = x → ¬ nI (8 + k) = nI x := fun x hx h z => h ((nI_eq (by omega) hx).mp z)
    exact br_f (n0 15 (by decide) (by omega)) (br_f (n0 16 (by decide) (by omega)) (br_f (n0 17 (by decide) (by omega)) (br_f (n0 19 (by decide) (by omega)) (br_f (n0 20 (by decide) (by omega)) (br_f (n0 0 (by decide) (by omega)) (br_f ho8 (br_f ho11 hm)))))))
/-- a value that is no integer -/
theorem mr_wCombF {post : Int32 → St1 → Prop} {i d : Nat} {o s s' : Int32} (hpc : a11 0 = nI i) (hi : i < 60) (hsc : ¬ sc = 300) (hcp : lv = 2 → a6 i = 0) (ho : a1 i = o) (ho8 : ¬ o < 8) (ho11 : ¬ 11 < o) (hd : a14 0 = nI (d + 2)) (h6 : d < 5)
    (hs : a15 (d + 1) = s) (hs' : a15 d = s') (hn : ¬ (s' = 1 ∧ s = 1))
    (hp : post 4 (pr, lv, 1, ou, yu, rm, mks, sc, md, rs, rn, pc, wc, a1, a2, a3, a4, a5, a6, a7, a8, a9, a10, a11, a12, a13, a14, a15, a16, a17, a18, a19, a20, a21, a22)) : wpX_work post (pr, lv, 1, ou, yu, rm, mks, sc, md, rs, rn, pc, wc, a1, a2, a3, a4, a5, a6, a7, a8, a9, a10, a11, a12, a13, a14, a15, a16, a17, a18, a19, a20, a21, a22) := by
  obtain ⟨k, hk, rfl⟩ : ∃ k : Nat, k < 4 ∧ o = nI (8 + k) := by
    obtain ⟨j, hj, e⟩ := nI_of2 (x := o) (M := 11) (n := 11) (by decide) (fun z => ho8 (Int32.lt_trans z (by decide))) (Int32.not_lt.mp ho11)
    subst e
    have : ¬ j < 8 := fun z => ho8 (nI_lt (b := 8) z (by decide))
    exact ⟨j - 8, by omega, by rw [show 8 + (j - 8) = j by omega]⟩
  refine mr_work 2 1 hpc hi hsc hcp ho rfl hd (fun P h => ?_) (fun P h => ?_) (by omega) (by omega) (by omega) ?_
  · rcases mr_four hk with rfl | rfl | rfl | rfl
    all_goals repeat (first | exact h | refine br_t (by decide) ?_ | refine br_f (by decide) ?_)
  · rcases mr_four hk with rfl | rfl | rfl | rfl
    all_goals repeat (first | exact h | refine br_t (by decide) ?_ | refine br_f (by decide) ?_)
  · have hm : wpX_combine (fun r u => match u with | (pr, lv, fc, ou, yu, rm, mks, sc, md, rs, rn, pc, wc, a1, a2, a3, a4, a5, a6, a7, a8, a9, a10, a11, a12, a13, a14, a15, a16, a17, a18, a19, a20, a21, a22) => ((r = (-1) → (wX_work_144 post r pr lv fc ou yu rm mks sc md rs rn pc wc a1 a2 a3 a4 a5 a6 a7 a8 a9 a10 a11 a12 a13 a14 a15 a16 a17 a18 a19 a20 a21 a22)) ∧ (¬ r = (-1) → (((r = 0 → (wX_work_144 post r pr lv fc ou yu rm mks sc md rs rn pc wc a1 a2 a3 a4 a5 a6 a7 a8 a9 a10 a11 a12 a13 a14 a15 a16 a17 a18 a19 a20 a21 a22)) ∧ (¬ r = 0 → (post r (pr, lv, fc, ou, yu, rm, mks, sc, md, rs, rn, pc, wc, a1, a2, a3, a4, a5, a6, a7, a8, a9, a10, a11, a12, a13, a14, a15, a16, a17, a18, a19, a20, a21, a22)))))))) (pr, lv, 1, ou, yu, rm, mks, sc, md, rs, rn, pc, wc, a1, a2, a3, a4, a5, a6, a7, a8, a9, a10, a11, a12, a13, a14, a15, a16, a17, a18, a19, a20, a21, a22) (nI (8 + k)) := by
      unfold wpX_combine
      refine mr_sa0 hd (by omega) hs (br_c (fun e => mr_sa1 hd (by omega) hs' (br_f (fun z => hn ⟨z, e⟩) ?_)) (fun _ => ?_))
      · exact br_f (by decide) (br_f (by decide) hp)
      · exact br_f (by decide) (br_f (by decide) hp)
    have n0 : ∀ x : Nat, x < 2 ^ 31 → ¬ 8 + k = x → ¬ nI (8 + k) = nI x := fun x hx h z => h ((nI_eq (by omega) hx).mp z)
    exact br_f (n0 15 (by decide) (by omega)) (br_f (n0 16 (by decide) (by omega)) (br_f (n0 17 (by decide) (by omega)) (br_f (n0 19 (by decide) (by omega)) (br_f (n0 20 (by decide) (by omega)) (br_f (n0 0 (by decide) (by omega)) (br_f ho8 (br_f ho11 hm)))))))
theorem mr_wZero {post : Int32 → St1 → Prop} {i d t j : Nat} {v : Int32} (hpc : a11 0 = nI i) (hi : i < 60) (hsc : ¬ sc = 300) (hcp : lv = 2 → a6 i = 0) (ho : a1 i = 14) (hn : a2 i = nI t) (hd : a14 0 = nI (d + 1)) (h6 : d < 6)
    (hs : a15 d = 1) (hv : a16 d = v) (hj : j = if v = 0 then t else i + 1)
    (hp : post (-1) (pr, lv, 1, ou, yu, rm, mks, sc + 1, md, rs, rn, pc, wc, a1, a2, a3, a4, a5, a6, a7, a8, a9, a10, upd a11 0 (nI j), a12, a13, upd a14 0 (nI d), a15, a16, a17, a18, a19, a20, a21, a22)) : wpX_work post (pr, lv, 1, ou, yu, rm, mks, sc, md, rs, rn, pc, wc, a1, a2, a3, a4, a5, a6, a7, a8, a9, a10, a11, a12, a13, a14, a15, a16, a17, a18, a19, a20, a21, a22) := by
  refine mr_work 1 0 hpc hi hsc hcp ho hn hd (fun P h => ?_) (fun P h => ?_) (by omega) (by omega) (by omega) ?_
  · repeat (first | exact h | refine br_t (by decide) ?_ | refine br_f (by decide) ?_)
  · repeat (first | exact h | refine br_t (by decide) ?_ | refine br_f (by decide) ?_)
  · refine br_f (by decide) (br_f (by decide) (br_f (by decide) (br_f (by decide) (br_f (by decide) (br_f (by decide) (br_f (by decide) (br_t (by decide) (br_t rfl ?_))))))))
    unfold wX_workOne_91
    refine mr_sa0 hd h6 hs (br_t rfl (mr_na0 hd h6 hv (mr_dr1 hd h6 (mr_top (br_t rfl (br_c (fun e => ?_) (fun e => ?_)))))))
    · rw [if_pos e] at hj
      subst hj
      exact ⟨pk_in 0 10 (by decide), nm_r (mr_u0 rfl) (br_f (by decide) (br_t rfl (nm_e hp)))⟩
    · rw [if_neg e] at hj
      subst hj
      exact ⟨pk_in 0 10 (by decide), nm_r (mr_u0 (nI_1 i)) (br_f (by decide) (br_t rfl (nm_e hp)))⟩
theorem mr_wOut {post : Int32 → St1 → Prop} {i d : Nat} {v : Int32} (hpc : a11 0 = nI i) (hi : i < 60) (hsc : ¬ sc = 300) (hcp : lv = 2 → a6 i = 0) (ho : a1 i = 23) (hd : a14 0 = nI (d + 1)) (h6 : d < 6)
    (hs : a15 d = 1) (hv : a16 d = v)
    (hp : post (-1) (pr, lv, 1, ou, yu, rm, mks, sc + 1, md, rs, rn, 1, wc, a1, a2, a3, a4, a5, a6, a7, a8, a9, a10, upd a11 0 (nI (i + 1)), a12, a13, upd a14 0 (nI d), a15, a16, a17, a18, a19, a20, a21, upd a22 0 v)) : wpX_work post (pr, lv, 1, ou, yu, rm, mks, sc, md, rs, rn, 0, wc, a1, a2, a3, a4, a5, a6, a7, a8, a9, a10, a11, a12, a13, a14, a15, a16, a17, a18, a19, a20, a21, a22) := by
  refine mr_work 1 0 hpc hi hsc hcp ho rfl hd (fun P h => ?_) (fun P h => ?_) (by omega) (by omega) (by omega) ?_
  · repeat (first | exact h | refine br_t (by decide) ?_ | refine br_f (by decide) ?_)
  · repeat (first | exact h | refine br_t (by decide) ?_ | refine br_f (by decide) ?_)
  · refine br_f (by decide) (br_f (by decide) (br_f (by decide) (br_f (by decide) (br_f (by decide) (br_f (by decide) (br_f (by decide) (br_t (by decide) (br_f (by decide) (br_t rfl ?_)))))))))
    unfold wX_workOne_91
    refine mr_sa0 hd h6 hs (br_t rfl (mr_na0 hd h6 hv (mr_dr1 hd h6 (mr_top (br_f (by decide) ⟨pk_in 0 10 (by decide), nm_r (mr_u0 (nI_1 i)) (br_t rfl ?_)⟩)))))
    exact br_f (by decide) ⟨pk_in 0 20 (by decide), nm_r (mr_u0 rfl) (nm_r (e' := 1) (by decide) (br_t rfl (nm_e hp)))⟩
theorem mr_wOutF {post : Int32 → St1 → Prop} {i d : Nat} {s : Int32} (hpc : a11 0 = nI i) (hi : i < 60) (hsc : ¬ sc = 300) (hcp : lv = 2 → a6 i = 0) (ho : a1 i = 23) (hd : a14 0 = nI (d + 1)) (h6 : d < 6)
    (hs : a15 d = s) (hn : ¬ s = 1)
    (hp : post 4 (pr, lv, 1, ou, yu, rm, mks, sc, md, rs, rn, pc, wc, a1, a2, a3, a4, a5, a6, a7, a8, a9, a10, a11, a12, a13, a14, a15, a16, a17, a18, a19, a20, a21, a22)) : wpX_work post (pr, lv, 1, ou, yu, rm, mks, sc, md, rs, rn, pc, wc, a1, a2, a3, a4, a5, a6, a7, a8, a9, a10, a11, a12, a13, a14, a15, a16, a17, a18, a19, a20, a21, a22) := by
  refine mr_work 1 0 hpc hi hsc hcp ho rfl hd (fun P h => ?_) (fun P h => ?_) (by omega) (by omega) (by omega) ?_
  · repeat (first | exact h | refine br_t (by decide) ?_ | refine br_f (by decide) ?_)
  · repeat (first | exact h | refine br_t (by decide) ?_ | refine br_f (by decide) ?_)
  · refine br_f (by decide) (br_f (by decide) (br_f (by decide) (br_f (by decide) (br_f (by decide) (br_f (by decide) (br_f (by decide) (br_t (by decide) (br_f (by decide) (br_t rfl ?_)))))))))
    unfold wX_workOne_91
    exact mr_sa0 hd h6 hs (br_f hn (br_f (by decide) (br_f (by decide) hp)))
theorem mr_wStop {post : Int32 → St1 → Prop} {i d : Nat} (hpc : a11 0 = nI i) (hi : i < 60) (hsc : ¬ sc = 300) (hcp : lv = 2 → a6 i = 0) (ho : a1 i = 0) (hd : a14 0 = nI d) (h6 : d ≤ 6)
    (hp : post 0 (pr, lv, 1, ou, yu, rm, mks, sc + 1, md, rs, rn, pc, wc, a1, a2, a3, a4, a5, a6, a7, a8, a9, a10, a11, a12, a13, a14, a15, a16, a17, a18, a19, a20, a21, a22)) : wpX_work post (pr, lv, 1, ou, yu, rm, mks, sc, md, rs, rn, pc, wc, a1, a2, a3, a4, a5, a6, a7, a8, a9, a10, a11, a12, a13, a14, a15, a16, a17, a18, a19, a20, a21, a22) := by
  refine mr_work 0 0 hpc hi hsc hcp ho rfl hd (fun P h => ?_) (fun P h => ?_) (by omega) (by omega) (by omega) ?_
  · repeat (first | exact h | refine br_t (by decide) ?_ | refine br_f (by decide) ?_)
  · repeat (first | exact h | refine br_t (by decide) ?_ | refine br_f (by decide) ?_)
  · exact br_f (by decide) (br_f (by decide) (br_f (by decide) (br_f (by decide) (br_f (by decide) (br_t rfl (br_f (by decide) (br_t rfl (nm_e hp))))))))
theorem mr_wRet {post : Int32 → St1 → Prop} {i d : Nat} {s v : Int32} (hpc : a11 0 = nI i) (hi : i < 60) (hsc : ¬ sc = 300) (hcp : lv = 2 → a6 i = 0) (ho : a1 i = 20) (hd : a14 0 = nI (d + 1)) (h6 : d < 6)
    (hs : a15 d = s) (hn : ¬ s = 2) (hv : a16 d = v)
    (hp : post 0 (pr, lv, 0, ou, yu, rm, mks, sc + 1, md, s, v, pc, wc, a1, a2, a3, a4, a5, a6, a7, a8, a9, a10, a11, a12, a13, a14, a15, a16, a17, a18, a19, a20, a21, a22)) : wpX_work post (pr, lv, 1, ou, yu, rm, mks, sc, md, rs, rn, pc, wc, a1, a2, a3, a4, a5, a6, a7, a8, a9, a10, a11, a12, a13, a14, a15, a16, a17, a18, a19, a20, a21, a22) := by
  refine mr_work 1 0 hpc hi hsc hcp ho rfl hd (fun P h => ?_) (fun P h => ?_) (by omega) (by omega) (by omega) ?_
  · repeat (first | exact h | refine br_t (by decide) ?_ | refine br_f (by decide) ?_)
  · repeat (first | exact h | refine br_t (by decide) ?_ | refine br_f (by decide) ?_)
  · refine br_f (by decide) (br_f (by decide) (br_f (by decide) (br_f (by decide) (br_t rfl ?_))))
    unfold wpX_leave
    exact mr_sa0 hd h6 hs (mr_na0 hd h6 hv (nm_r mr_sub0 (br_t (by decide) (br_f hn (br_f (by decide) (br_t rfl (nm_e hp)))))))
theorem mr_t143 {post : Int32 → St1 → Prop} {i : Nat} (hpc : a11 0 = nI i) (hp : post (-1) (pr, lv, 1, ou, yu, rm, mks, sc, md, rs, rn, pc, wc, a1, a2, a3, a4, a5, a6, a7, a8, a9, a10, upd a11 0 (nI (i + 1)), a12, a13, a14, a15, a16, a17, a18, a19, a20, a21, a22)) : wX_touchField_143 post pr lv 1 ou yu rm mks sc md rs rn pc wc a1 a2 a3 a4 a5 a6 a7 a8 a9 a10 a11 a12 a13 a14 a15 a16 a17 a18 a19 a20 a21 a22 := by
  unfold wX_touchField_143
  exact mr_top ⟨pk_in 0 10 (by decide), pk_in 0 10 (by decide), mr_next hpc hp⟩
theorem mr_t138 {post : Int32 → St1 → Prop} {i d : Nat} (hpc : a11 0 = nI i) (hd : a14 0 = nI (d + 2)) (h6 : d < 5) (hp : post (-1) (pr, lv, 1, ou, yu, rm, mks, sc, md, rs, rn, pc, wc, a1, a2, a3, a4, a5, a6, a7, a8, a9, a10, upd a11 0 (nI (i + 1)), a12, a13, upd a14 0 (nI d), a15, a16, a17, a18, a19, a20, a21, a22)) : wX_touchField_138 post pr lv 1 ou yu rm mks sc md rs rn pc wc a1 a2 a3 a4 a5 a6 a7 a8 a9 a10 a11 a12 a13 a14 a15 a16 a17 a18 a19 a20 a21 a22 := by
  unfold wX_touchField_138
  exact mr_dr2 hd (by omega) (mr_t143 hpc hp)
/-- a field is written: PUT n, the object at 24 or above -/
theorem mr_wPut {post : Int32 → St1 → Prop} {i d b n : Nat} {s v : Int32} (hpc : a11 0 = nI i) (hi : i < 60) (hsc : ¬ sc = 300) (hcp : lv = 2 → a6 i = 0) (ho : a1 i = 17) (hn : a2 i = nI n) (hn3 : n < 3) (hd : a14 0 = nI (d + 2)) (h6 : d < 5)
    (hs : a15 (d + 1) = s) (hb : s.toInt8.toInt32 = s) (hv : a16 (d + 1) = v) (hs' : a15 d = 2) (hv' : a16 d = nI b) (hb1 : 24 ≤ b) (hb2 : b < 32)
    (hp : post (-1) (pr, lv, 1, ou, yu, rm, mks, sc + 1, md, rs, rn, pc, wc, a1, a2, a3, a4, a5, a6, a7, a8, a9, a10, upd a11 0 (nI (i + 1)), a12, a13, upd a14 0 (nI d), a15, a16, a17, upd a18 (3 * b + n) s, upd a19 (3 * b + n) v, a20, a21, a22)) : wpX_work post (pr, lv, 1, ou, yu, rm, mks, sc, md, rs, rn, pc, wc, a1, a2, a3, a4, a5, a6, a7, a8, a9, a10, a11, a12, a13, a14, a15, a16, a17, a18, a19, a20, a21, a22) := by
  refine mr_work 2 0 hpc hi hsc hcp ho hn hd (fun P h => ?_) (fun P h => ?_) (by omega) (by omega) (by omega) ?_
  · repeat (first | exact h | refine br_t (by decide) ?_ | refine br_f (by decide) ?_)
  · repeat (first | exact h | refine br_t (by decide) ?_ | refine br_f (by decide) ?_)
  · have w : vp_in (nI (3 * b + n)) 96 := vp_in_nI (by omega) (by decide)
    refine br_f (by decide) (br_f (by decide) (br_t rfl (br_t rfl ?_)))
    unfold wX_touchField_11
    refine mr_sa1 hd (by omega) hs' (br_t rfl (mr_na1 hd (by omega) hv' (nm_r (mr_m3 b n) (br_f (by decide) ?_))))
    refine mr_sa0 hd (by omega) hs ⟨w, nm_r (mr_uk rfl (by omega) hb) (mr_na0 hd (by omega) hv ⟨w, nm_r (mr_uk rfl (by omega) rfl) (br_t (nI_le (a := 24) hb1 (by omega)) ?_)⟩)⟩
    exact mr_t138 hpc hd (by omega) (br_t rfl (nm_e hp))
/-- a field is read -/
theorem mr_wGet {post : Int32 → St1 → Prop} {i d b n : Nat} {s v : Int32} (hpc : a11 0 = nI i) (hi : i < 60) (hsc : ¬ sc = 300) (hcp : lv = 2 → a6 i = 0) (ho : a1 i = 16) (hn : a2 i = nI n) (hn3 : n < 3) (hd : a14 0 = nI (d + 1)) (h6 : d < 6)
    (hs' : a15 d = 2) (hv' : a16 d = nI b) (hb2 : b < 32) (hs : a18 (3 * b + n) = s) (hb : s.toInt8.toInt32 = s) (hv : a19 (3 * b + n) = v)
    (hp : post (-1) (pr, lv, 1, ou, yu, rm, mks, sc + 1, md, rs, rn, pc, wc, a1, a2, a3, a4, a5, a6, a7, a8, a9, a10, upd a11 0 (nI (i + 1)), a12, a13, upd (upd a14 0 (nI d)) 0 (nI (d + 1)), upd a15 d s, upd a16 d v, a17, a18, a19, a20, a21, a22)) : wpX_work post (pr, lv, 1, ou, yu, rm, mks, sc, md, rs, rn, pc, wc, a1, a2, a3, a4, a5, a6, a7, a8, a9, a10, a11, a12, a13, a14, a15, a16, a17, a18, a19, a20, a21, a22) := by
  refine mr_work 1 1 hpc hi hsc hcp ho hn hd (fun P h => ?_) (fun P h => ?_) (by omega) (by omega) (by omega) ?_
  · repeat (first | exact h | refine br_t (by decide) ?_ | refine br_f (by decide) ?_)
  · repeat (first | exact h | refine br_t (by decide) ?_ | refine br_f (by decide) ?_)
  · have w : vp_in (nI (3 * b + n)) 96 := vp_in_nI (by omega) (by decide)
    refine br_f (by decide) (br_t rfl (br_f (by decide) ?_))
    unfold wX_touchField_11
    refine mr_sa0 hd h6 hs' (br_t rfl (mr_na0 hd h6 hv' (nm_r (mr_m3 b n) (br_t rfl (mr_dr1 hd h6 ⟨w, w, mr_push (s := s) (v := v) pk_us h6 ?_ ?_ (mr_t143 hpc (br_t rfl (nm_e hp)))⟩)))))
    · rw [mr_cl (by omega) hs]
      exact hb
    · exact mr_cl (by omega) hv
/-- LOAD l and GET n in one go -/
theorem mr_wLG {post : Int32 → St1 → Prop} {i d b n l : Nat} {s v : Int32} (hpc : a11 0 = nI i) (hi : i < 59) (hsc : ¬ sc = 300) (hsc2 : sc ≤ 298) (hlv : lv = 2) (hcp : a6 i = 1) (hl : a2 i = nI l) (hl4 : l < 4) (hn : a2 (i + 1) = nI n) (hn3 : n < 3) (hd : a14 0 = nI d) (h6 : d < 6)
    (hs' : a12 l = 2) (hv' : a13 l = nI b) (hb2 : b < 32) (hs : a18 (3 * b + n) = s) (hb : s.toInt8.toInt32 = s) (hv : a19 (3 * b + n) = v)
    (hp : post (-1) (pr, lv, 1, ou, yu, rm, mks, sc + 2, md, rs, rn, pc, wc, a1, a2, a3, a4, a5, a6, a7, a8, a9, a10, upd a11 0 (nI (i + 2)), a12, a13, upd a14 0 (nI (d + 1)), upd a15 d s, upd a16 d v, a17, a18, a19, a20, a21, a22)) : wpX_work post (pr, lv, 1, ou, yu, rm, mks, sc, md, rs, rn, pc, wc, a1, a2, a3, a4, a5, a6, a7, a8, a9, a10, a11, a12, a13, a14, a15, a16, a17, a18, a19, a20, a21, a22) := by
  have w : vp_in (nI i) 60 := vp_in_nI (by omega) (by decide)
  have v0 : vp_in 0 10 := pk_in 0 10 (by decide)
  have f : vp_in (nI (3 * b + n)) 96 := vp_in_nI (by omega) (by decide)
  unfold wpX_work
  refine mr_top ⟨v0, nm_r (mr_c0 hpc) (br_f (nI_pos (by omega)) (br_t (nI_le (b := 59) (by omega) (by decide)) (br_f hsc (br_t hlv ⟨w, br_f ?_ ⟨w, ?_⟩⟩))))⟩
  · rw [mr_cl (by omega) hcp]
    decide
  · rw [mr_cl (by omega) hcp]
    refine br_t hsc2 (br_t rfl ?_)
    unfold wpX_loadGet
    refine (mr_top ⟨w, nm_r (e' := nI l) ?_ ⟨v0, br_f ?_ ⟨pk_in l 40 (by omega), br_t (mr_cl (by omega) hs') ⟨pk_in l 40 (by omega), ?_, nm_r (e' := nI (3 * b + n)) ?_ ⟨f, f, mr_push (s := s) (v := v) hd h6 ?_ ?_ ⟨v0, v0, nm_r (mr_u0 (w := nI (i + 2)) ?_) ?_⟩⟩⟩⟩⟩⟩)
    · rw [mr_cl (by omega) hl, mr_m4]
    · rw [mr_c0 hd]
      exact nI_ge (b := 6) h6 (by decide)
    · rw [nI_1]
      exact vp_in_nI (by omega) (by decide)
    · rw [mr_cl (by omega) hv', nI_1, mr_cl (by omega) hn, mr_m3]
    · rw [mr_cl (by omega) hs]
      exact hb
    · exact mr_cl (by omega) hv
    · rw [mr_c0 hpc]
      exact nI_add i 2
    · exact br_f (by decide) (nm_e ⟨rfl, br_f (by decide) hp⟩)
/-- an object is made: its place is 24 + y -/
theorem mr_mk {post : Int32 → St1 → Prop} {i y : Nat} {c : Int32} (hpc : a11 0 = nI i) (hy : y < 8) (hd : a14 0 = nI 0)
    (hp : ∀ b17 b18 b19, post (-1) (pr, lv, 1, ou, nI (y + 1), rm, mks, sc, md + 1, rs, rn, pc, wc, a1, a2, a3, a4, a5, a6, a7, a8, a9, a10, upd a11 0 (nI (i + 1)), a12, a13, upd a14 0 (nI 1), upd a15 0 2, upd a16 0 (nI (24 + y)), b17, b18, b19, a20, a21, a22)) : wX_makeObject_56 post c pr lv 1 ou (nI y) rm mks sc md rs rn pc wc a1 a2 a3 a4 a5 a6 a7 a8 a9 a10 a11 a12 a13 a14 a15 a16 a17 a18 a19 a20 a21 a22 := by
  have e24 : (24 + nI y : Int32) = nI (24 + y) := by rw [show (24 : Int32) = nI 24 from rfl, nI_add]
  have e3 : (3 * nI (24 + y) : Int32) = nI (3 * (24 + y)) := by rw [show (3 : Int32) = nI 3 from rfl, pk_mul]
  have e33 : (3 * nI (24 + y) + 3 : Int32) = nI (3 * (24 + y) + 3) := by rw [e3, show (3 : Int32) = nI 3 from rfl, nI_add]
  refine nm_r e24 (nm_r (nI_1 y) (nm_e ⟨vp_in_nI (by omega) (by decide), nm_e (nm_r e3 ?_)⟩))
  refine pk_loop (σ := (Nat → Int32) × (Nat → Int32)) (fun n k t => wX_makeObject_96 post (nI (24 + y)) pr lv 1 ou (nI (y + 1)) rm mks sc (md + 1) rs rn pc wc n (nI k) a1 a2 a3 a4 a5 a6 a7 a8 a9 a10 a11 a12 a13 a14 a15 a16 (upd a17 (nI (24 + y)).toNatClampNeg c.toInt8.toInt32) t.1 t.2 a20 a21 a22) (fun _ _ => True) (3 * (24 + y) + 3) (3 * (24 + y)) (a18, a19) (by omega) trivial ?_ ?_
  · intro n t _
    exact pk_le (3 * (24 + y) + 3) (3 * (24 + y) + 3) (fun _ => mr_push hd (by decide) (by decide) rfl (mr_top ⟨pk_in 0 10 (by decide), pk_in 0 10 (by decide), mr_next hpc (hp _ _ _)⟩)) (fun z => absurd z (by omega)) e33
  · intro n k t hk _ hw
    exact pk_le (3 * (24 + y) + 3) k (fun z => absurd z (by omega)) (fun _ => ⟨pk_in k 96 (by omega), nm_e ⟨pk_in k 96 (by omega), nm_e (nm_r (nI_1 k) (hw (_, _) trivial))⟩⟩) e33
/-- NEW as the first instruction -/
theorem mr_wNew {post : Int32 → St1 → Prop} {i y : Nat} {c : Int32} (hpc : a11 0 = nI i) (hi : i < 60) (hsc : ¬ sc = 300) (hcp : lv = 2 → a6 i = 0) (ho : a1 i = 15) (hn : a2 i = c) (hd : a14 0 = nI 0) (hy : y ≤ 8)
    (h9 : ∀ g, g < 4 → ¬ a9 g = 2) (h12 : ∀ l, l < 4 → ¬ a12 l = 2)
    (hp : ∀ y' rm mks wc b17 b18 b19 b21, y' < 8 → post (-1) (pr, lv, 1, 0, nI (y' + 1), rm, mks, sc + 1, md + 1, rs, rn, pc, wc, a1, a2, a3, a4, a5, a6, a7, a8, a9, a10, upd a11 0 (nI (i + 1)), a12, a13, upd a14 0 (nI 1), upd a15 0 2, upd a16 0 (nI (24 + y')), b17, b18, b19, a20, b21, a22)) : wpX_work post (pr, lv, 1, 0, nI y, rm, mks, sc, md, rs, rn, pc, wc, a1, a2, a3, a4, a5, a6, a7, a8, a9, a10, a11, a12, a13, a14, a15, a16, a17, a18, a19, a20, a21, a22) := by
  refine mr_work 0 1 hpc hi hsc hcp ho hn hd (fun P h => ?_) (fun P h => ?_) (by omega) (by omega) (by omega) ?_
  · repeat (first | exact h | refine br_t (by decide) ?_ | refine br_f (by decide) ?_)
  · repeat (first | exact h | refine br_t (by decide) ?_ | refine br_f (by decide) ?_)
  · refine br_t rfl (br_t ?_ (br_c (fun e8 => br_c (fun e0 => ?_) (fun e0 => ?_)) (fun e8 => ?_)))
    · rw [show (0 : Int32) = nI 0 from rfl, nI_add]
      exact nI_lt (b := 16) (by omega) (by decide)
    · exact mr_ca h9 h12 hd (mr_mk (y := 0) hpc (by decide) hd (fun b17 b18 b19 => br_t rfl (nm_e (hp 0 _ _ _ b17 b18 b19 _ (by decide)))))
    · exact mr_cy h9 h12 hd (fun b21 => mr_mk (y := 0) hpc (by decide) hd (fun b17 b18 b19 => br_t rfl (nm_e (hp 0 _ _ _ b17 b18 b19 b21 (by decide)))))
    · have hy8 : y < 8 := by
        rcases Nat.lt_or_ge y 8 with z | z
        · exact z
        · exact absurd (show nI y = 8 by rw [show y = 8 by omega]; rfl) e8
      exact mr_mk hpc hy8 hd (fun b17 b18 b19 => br_t rfl (nm_e (hp y _ _ _ b17 b18 b19 _ hy8)))
end
end
section
/-! ===== the law's programs, run ===== -/
/-- a state behind a run: its counts and answers, and what it leaves -/
def mr_Fin (st mdv gs gn pn out : Int32) (b3 b9 b10 : Nat → Int32) (u : St1) : Prop := match u with
  | (pr, lv, fc, ou, yu, rm, mks, sc, md, rs, rn, pc, wc, a1, a2, a3, a4, a5, a6, a7, a8, a9, a10, a11, a12, a13, a14, a15, a16, a17, a18, a19, a20, a21, a22) => fc = 0 ∧ ou = 0 ∧ (∃ y : Nat, y ≤ 8 ∧ yu = nI y) ∧ sc = st ∧ md = mdv ∧ rs = gs ∧ rn = gn ∧ pc = pn ∧ (pn = 1 → a22 0 = out) ∧ a3 = b3 ∧ a9 = b9 ∧ a10 = b10
theorem mr_c1 {a b : Nat → Int32} (hb : ∀ i, i < 59 → b i = mr_cp (a i) (a (i + 1))) {i : Nat} (hi : i < 59) {x : Int32} (hx : a i = x) (h : ¬ x = 3 ∧ ¬ x = 1 ∧ ¬ x = 11) : b i = 0 := by
  rw [hb i hi, hx]
  exact mr_cpf _ h.1 h.2.1 h.2.2
theorem mr_c2 {a b : Nat → Int32} (hb : ∀ i, i < 59 → b i = mr_cp (a i) (a (i + 1))) {i : Nat} (hi : i < 59) {y : Int32} (hy : a (i + 1) = y) (h : ¬ y = 16 ∧ ¬ y = 8 ∧ ¬ y = 14 ∧ ¬ y = 3) : b i = 0 := by
  rw [hb i hi, hy]
  exact mr_cps _ h.1 h.2.1 h.2.2.1 h.2.2.2
section
variable {pr lv fc ou yu rm mks sc md rs rn pc wc : Int32} {a1 a2 a3 a4 a5 a6 a7 a8 a9 a10 a11 a12 a13 a14 a15 a16 a17 a18 a19 a20 a21 a22 : Nat → Int32}
theorem mr_go {post : Int32 → St1 → Prop} {n : Nat} (h : wpX_work (fun r u => match u with | (pr, lv, fc, ou, yu, rm, mks, sc, md, rs, rn, pc, wc, a1, a2, a3, a4, a5, a6, a7, a8, a9, a10, a11, a12, a13, a14, a15, a16, a17, a18, a19, a20, a21, a22) => (wX_run_48 post n r pr lv fc ou yu rm mks sc md rs rn pc wc a1 a2 a3 a4 a5 a6 a7 a8 a9 a10 a11 a12 a13 a14 a15 a16 a17 a18 a19 a20 a21 a22)) (pr, lv, fc, ou, yu, rm, mks, sc, md, rs, rn, pc, wc, a1, a2, a3, a4, a5, a6, a7, a8, a9, a10, a11, a12, a13, a14, a15, a16, a17, a18, a19, a20, a21, a22)) : wX_run_48 post (n + 1) (-1) pr lv fc ou yu rm mks sc md rs rn pc wc a1 a2 a3 a4 a5 a6 a7 a8 a9 a10 a11 a12 a13 a14 a15 a16 a17 a18 a19 a20 a21 a22 := br_t rfl h
theorem mr_end {post : Int32 → St1 → Prop} {n : Nat} {r : Int32} (hr : ¬ r = (-1)) (h : post r (pr, lv, 0, ou, yu, rm, mks, sc, md, rs, rn, pc, wc, a1, a2, a3, a4, a5, a6, a7, a8, a9, a10, a11, a12, a13, a14, a15, a16, a17, a18, a19, a20, a21, a22)) : wX_run_48 post (n + 1) r pr lv fc ou yu rm mks sc md rs rn pc wc a1 a2 a3 a4 a5 a6 a7 a8 a9 a10 a11 a12 a13 a14 a15 a16 a17 a18 a19 a20 a21 a22 := br_f hr h
/-- PUSH k, GIVE z, STOP -/
theorem mr_p0 {post : Int32 → St1 → Prop} {y z : Nat} {arg k : Int32} (hy : y ≤ 8) (hz : z < 4) (h3 : ∀ j, j < 4 → a3 j < 0) (e0 : a1 0 = 1) (e1 : a1 1 = 22) (e2 : a1 2 = 0) (n0 : a2 0 = k) (n1 : a2 1 = nI z)
    (hp : ∀ u, mr_Fin 3 0 0 0 0 0 a3 (upd a9 z 1) (upd a10 z k) u → post 0 u) : wpX_run post (0, lv, fc, 0, nI y, rm, mks, sc, md, rs, rn, pc, wc, a1, a2, a3, a4, a5, a6, a7, a8, a9, a10, a11, a12, a13, a14, a15, a16, a17, a18, a19, a20, a21, a22) 0 arg := by
  refine mr_run h3 (fun b5 b6 b7 hb => ⟨4, ?_⟩)
  refine mr_go (mr_wPush (i := 0) (d := 0) rfl (by decide) (by decide) (fun _ => mr_c2 hb (by decide) e1 (by decide)) e0 n0 rfl (by decide) ?_)
  refine mr_go (mr_wGive (i := 1) (d := 0) (s := 1) (v := k) rfl (by decide) (by decide) (fun _ => mr_c1 hb (by decide) e1 (by decide)) e1 n1 hz rfl (by decide) rfl (by decide) rfl ?_)
  refine mr_go (mr_wStop (i := 2) (d := 0) rfl (by decide) (by decide) (fun _ => mr_c1 hb (by decide) e2 (by decide)) e2 rfl (by decide) ?_)
  exact mr_end (by decide) (hp _ ⟨rfl, rfl, ⟨y, hy, rfl⟩, by decide, rfl, rfl, rfl, rfl, (fun z => absurd z (by decide)), rfl, rfl, rfl⟩)
/-- LOAD 1, GIVE z, STOP -/
theorem mr_p1 {post : Int32 → St1 → Prop} {y z : Nat} {arg : Int32} (hy : y ≤ 8) (hz : z < 4) (h3 : ∀ j, j < 4 → a3 j < 0) (e0 : a1 0 = 3) (e1 : a1 1 = 22) (e2 : a1 2 = 0) (n0 : a2 0 = nI 1) (n1 : a2 1 = nI z)
    (hp : ∀ u, mr_Fin 3 0 0 0 0 0 a3 (upd a9 z 1) (upd a10 z arg) u → post 0 u) : wpX_run post (0, lv, fc, 0, nI y, rm, mks, sc, md, rs, rn, pc, wc, a1, a2, a3, a4, a5, a6, a7, a8, a9, a10, a11, a12, a13, a14, a15, a16, a17, a18, a19, a20, a21, a22) 0 arg := by
  refine mr_run h3 (fun b5 b6 b7 hb => ⟨4, ?_⟩)
  refine mr_go (mr_wLoad (i := 0) (d := 0) (s := 1) (v := arg) rfl (by decide) (by decide) (fun _ => mr_c2 hb (by decide) e1 (by decide)) e0 n0 (by decide) rfl (by decide) rfl (by decide) rfl ?_)
  refine mr_go (mr_wGive (i := 1) (d := 0) (s := 1) (v := arg) rfl (by decide) (by decide) (fun _ => mr_c1 hb (by decide) e1 (by decide)) e1 n1 hz rfl (by decide) rfl (by decide) rfl ?_)
  refine mr_go (mr_wStop (i := 2) (d := 0) rfl (by decide) (by decide) (fun _ => mr_c1 hb (by decide) e2 (by decide)) e2 rfl (by decide) ?_)
  exact mr_end (by decide) (hp _ ⟨rfl, rfl, ⟨y, hy, rfl⟩, by decide, rfl, rfl, rfl, rfl, (fun z => absurd z (by decide)), rfl, rfl, rfl⟩)
/-- EMPTY, GIVE z, TAKE z, RETURN -/
theorem mr_p2 {post : Int32 → St1 → Prop} {y z : Nat} {arg : Int32} (hy : y ≤ 8) (hz : z < 4) (h3 : ∀ j, j < 4 → a3 j < 0) (e0 : a1 0 = 2) (e1 : a1 1 = 22) (e2 : a1 2 = 21) (e3 : a1 3 = 20) (n1 : a2 1 = nI z) (n2 : a2 2 = nI z)
    (hp : ∀ u, mr_Fin 4 0 0 0 0 0 a3 (upd a9 z 0) (upd a10 z 0) u → post 0 u) : wpX_run post (0, lv, fc, 0, nI y, rm, mks, sc, md, rs, rn, pc, wc, a1, a2, a3, a4, a5, a6, a7, a8, a9, a10, a11, a12, a13, a14, a15, a16, a17, a18, a19, a20, a21, a22) 0 arg := by
  refine mr_run h3 (fun b5 b6 b7 hb => ⟨5, ?_⟩)
  refine mr_go (mr_wEmpty (i := 0) (d := 0) rfl (by decide) (by decide) (fun _ => mr_c1 hb (by decide) e0 (by decide)) e0 rfl (by decide) ?_)
  refine mr_go (mr_wGive (i := 1) (d := 0) (s := 0) (v := 0) rfl (by decide) (by decide) (fun _ => mr_c1 hb (by decide) e1 (by decide)) e1 n1 hz rfl (by decide) rfl (by decide) rfl ?_)
  refine mr_go (mr_wTake (i := 2) (d := 0) (s := 0) (v := 0) rfl (by decide) (by decide) (fun _ => mr_c1 hb (by decide) e2 (by decide)) e2 n2 hz rfl (by decide) pk_us (by decide) pk_us ?_)
  refine mr_go (mr_wRet (i := 3) (d := 0) (s := 0) (v := 0) rfl (by decide) (by decide) (fun _ => mr_c1 hb (by decide) e3 (by decide)) e3 rfl (by decide) rfl (by decide) rfl ?_)
  exact mr_end (by decide) (hp _ ⟨rfl, rfl, ⟨y, hy, rfl⟩, by decide, rfl, rfl, rfl, rfl, (fun z => absurd z (by decide)), rfl, rfl, rfl⟩)
/-- TAKE f, TAKE g, o, GIVE z, STOP: ADD, SUB, MUL, LESS over two integers -/
theorem mr_p3 {post : Int32 → St1 → Prop} {y f g z : Nat} {arg o p q : Int32} (hy : y ≤ 8) (hf : f < 4) (hg : g < 4) (hz : z < 4) (h3 : ∀ j, j < 4 → a3 j < 0) (e0 : a1 0 = 21) (e1 : a1 1 = 21) (e2 : a1 2 = o) (e3 : a1 3 = 22) (e4 : a1 4 = 0) (n0 : a2 0 = nI f) (n1 : a2 1 = nI g) (n3 : a2 3 = nI z)
    (ho8 : ¬ o < 8) (ho11 : ¬ 11 < o) (hs : a9 f = 1) (hv : a10 f = p) (hs' : a9 g = 1) (hv' : a10 g = q)
    (hp : ∀ u, mr_Fin 5 0 0 0 0 0 a3 (upd a9 z 1) (upd a10 z (mr_res o p q)) u → post 0 u) : wpX_run post (0, lv, fc, 0, nI y, rm, mks, sc, md, rs, rn, pc, wc, a1, a2, a3, a4, a5, a6, a7, a8, a9, a10, a11, a12, a13, a14, a15, a16, a17, a18, a19, a20, a21, a22) 0 arg := by
  refine mr_run h3 (fun b5 b6 b7 hb => ⟨6, ?_⟩)
  refine mr_go (mr_wTake (i := 0) (d := 0) (s := 1) (v := p) rfl (by decide) (by decide) (fun _ => mr_c1 hb (by decide) e0 (by decide)) e0 n0 hf rfl (by decide) hs (by decide) hv ?_)
  refine mr_go (mr_wTake (i := 1) (d := 1) (s := 1) (v := q) rfl (by decide) (by decide) (fun _ => mr_c1 hb (by decide) e1 (by decide)) e1 n1 hg rfl (by decide) hs' (by decide) hv' ?_)
  refine mr_go (mr_wComb (i := 2) (d := 0) (p := p) (q := q) rfl (by decide) (by decide) (fun _ => mr_c2 hb (by decide) e3 (by decide)) e2 ho8 ho11 rfl (by decide) rfl rfl rfl rfl rfl ?_)
  refine mr_go (mr_wGive (i := 3) (d := 0) (s := 1) (v := mr_res o p q) rfl (by decide) (by decide) (fun _ => mr_c1 hb (by decide) e3 (by decide)) e3 n3 hz rfl (by decide) rfl (by decide) rfl ?_)
  refine mr_go (mr_wStop (i := 4) (d := 0) rfl (by decide) (by decide) (fun _ => mr_c1 hb (by decide) e4 (by decide)) e4 rfl (by decide) ?_)
  exact mr_end (by decide) (hp _ ⟨rfl, rfl, ⟨y, hy, rfl⟩, by decide, rfl, rfl, rfl, rfl, (fun z => absurd z (by decide)), rfl, rfl, rfl⟩)
/-- .. over something else -/
theorem mr_p3F {post : Int32 → St1 → Prop} {y f g : Nat} {arg o s s' : Int32} (hy : y ≤ 8) (hf : f < 4) (hg : g < 4) (h3 : ∀ j, j < 4 → a3 j < 0) (e0 : a1 0 = 21) (e1 : a1 1 = 21) (e2 : a1 2 = o) (e3 : a1 3 = 22) (n0 : a2 0 = nI f) (n1 : a2 1 = nI g)
    (ho8 : ¬ o < 8) (ho11 : ¬ 11 < o) (hs : a9 f = s) (hb1 : s.toInt8.toInt32 = s) (hs' : a9 g = s') (hb2 : s'.toInt8.toInt32 = s') (hn : ¬ (s = 1 ∧ s' = 1))
    (hp : ∀ u, mr_Fin 2 0 0 0 0 0 a3 a9 a10 u → post 4 u) : wpX_run post (0, lv, fc, 0, nI y, rm, mks, sc, md, rs, rn, pc, wc, a1, a2, a3, a4, a5, a6, a7, a8, a9, a10, a11, a12, a13, a14, a15, a16, a17, a18, a19, a20, a21, a22) 0 arg := by
  refine mr_run h3 (fun b5 b6 b7 hb => ⟨4, ?_⟩)
  refine mr_go (mr_wTake (i := 0) (d := 0) rfl (by decide) (by decide) (fun _ => mr_c1 hb (by decide) e0 (by decide)) e0 n0 hf rfl (by decide) hs hb1 rfl ?_)
  refine mr_go (mr_wTake (i := 1) (d := 1) rfl (by decide) (by decide) (fun _ => mr_c1 hb (by decide) e1 (by decide)) e1 n1 hg rfl (by decide) hs' hb2 rfl ?_)
  refine mr_go (mr_wCombF (i := 2) (d := 0) (s := s') (s' := s) rfl (by decide) (by decide) (fun _ => mr_c2 hb (by decide) e3 (by decide)) e2 ho8 ho11 rfl (by decide) rfl rfl hn ?_)
  exact mr_end (by decide) (hp _ ⟨rfl, rfl, ⟨y, hy, rfl⟩, by decide, rfl, rfl, rfl, rfl, (fun z => absurd z (by decide)), rfl, rfl, rfl⟩)
/-- .. SAME over any two -/
theorem mr_p3S {post : Int32 → St1 → Prop} {y f g z : Nat} {arg s p s' q : Int32} (hy : y ≤ 8) (hf : f < 4) (hg : g < 4) (hz : z < 4) (h3 : ∀ j, j < 4 → a3 j < 0) (e0 : a1 0 = 21) (e1 : a1 1 = 21) (e2 : a1 2 = 12) (e3 : a1 3 = 22) (e4 : a1 4 = 0) (n0 : a2 0 = nI f) (n1 : a2 1 = nI g) (n3 : a2 3 = nI z)
    (hs : a9 f = s) (hb1 : s.toInt8.toInt32 = s) (hv : a10 f = p) (hs' : a9 g = s') (hb2 : s'.toInt8.toInt32 = s') (hv' : a10 g = q)
    (hp : ∀ u, mr_Fin 5 0 0 0 0 0 a3 (upd a9 z 1) (upd a10 z (if s' = s ∧ q = p then 1 else 0)) u → post 0 u) : wpX_run post (0, lv, fc, 0, nI y, rm, mks, sc, md, rs, rn, pc, wc, a1, a2, a3, a4, a5, a6, a7, a8, a9, a10, a11, a12, a13, a14, a15, a16, a17, a18, a19, a20, a21, a22) 0 arg := by
  refine mr_run h3 (fun b5 b6 b7 hb => ⟨6, ?_⟩)
  refine mr_go (mr_wTake (i := 0) (d := 0) rfl (by decide) (by decide) (fun _ => mr_c1 hb (by decide) e0 (by decide)) e0 n0 hf rfl (by decide) hs hb1 hv ?_)
  refine mr_go (mr_wTake (i := 1) (d := 1) rfl (by decide) (by decide) (fun _ => mr_c1 hb (by decide) e1 (by decide)) e1 n1 hg rfl (by decide) hs' hb2 hv' ?_)
  refine mr_go (mr_wSame (i := 2) (d := 0) (s := s') (v := q) (s' := s) (v' := p) rfl (by decide) (by decide) (fun _ => mr_c1 hb (by decide) e2 (by decide)) e2 rfl (by decide) rfl rfl rfl rfl rfl ?_)
  refine mr_go (mr_wGive (i := 3) (d := 0) (s := 1) (v := if s' = s ∧ q = p then 1 else 0) rfl (by decide) (by decide) (fun _ => mr_c1 hb (by decide) e3 (by decide)) e3 n3 hz rfl (by decide) rfl (by decide) rfl ?_)
  refine mr_go (mr_wStop (i := 4) (d := 0) rfl (by decide) (by decide) (fun _ => mr_c1 hb (by decide) e4 (by decide)) e4 rfl (by decide) ?_)
  exact mr_end (by decide) (hp _ ⟨rfl, rfl, ⟨y, hy, rfl⟩, by decide, rfl, rfl, rfl, rfl, (fun z => absurd z (by decide)), rfl, rfl, rfl⟩)
/-- TAKE f, DUP, OUT, ZERO 5, STOP, STOP -/
theorem mr_p5 {post : Int32 → St1 → Prop} {y f : Nat} {arg v : Int32} (hy : y ≤ 8) (hf : f < 4) (h3 : ∀ j, j < 4 → a3 j < 0) (e0 : a1 0 = 21) (e1 : a1 1 = 6) (e2 : a1 2 = 23) (e3 : a1 3 = 14) (e4 : a1 4 = 0) (e5 : a1 5 = 0) (n0 : a2 0 = nI f) (n3 : a2 3 = nI 5)
    (hs : a9 f = 1) (hv : a10 f = v)
    (hp : ∀ u, mr_Fin 5 0 0 0 1 v a3 a9 a10 u → post 0 u) : wpX_run post (0, lv, fc, 0, nI y, rm, mks, sc, md, rs, rn, pc, wc, a1, a2, a3, a4, a5, a6, a7, a8, a9, a10, a11, a12, a13, a14, a15, a16, a17, a18, a19, a20, a21, a22) 0 arg := by
  refine mr_run h3 (fun b5 b6 b7 hb => ⟨6, ?_⟩)
  refine mr_go (mr_wTake (i := 0) (d := 0) rfl (by decide) (by decide) (fun _ => mr_c1 hb (by decide) e0 (by decide)) e0 n0 hf rfl (by decide) hs (by decide) hv ?_)
  refine mr_go (mr_wDup (i := 1) (d := 0) (s := 1) (v := v) rfl (by decide) (by decide) (fun _ => mr_c1 hb (by decide) e1 (by decide)) e1 rfl (by decide) rfl (by decide) rfl ?_)
  refine mr_go (mr_wOut (i := 2) (d := 1) (v := v) rfl (by decide) (by decide) (fun _ => mr_c1 hb (by decide) e2 (by decide)) e2 rfl (by decide) rfl rfl ?_)
  by_cases hz : v = 0
  · refine mr_go (mr_wZero (i := 3) (d := 0) (t := 5) (j := 5) (v := v) rfl (by decide) (by decide) (fun _ => mr_c1 hb (by decide) e3 (by decide)) e3 n3 rfl (by decide) rfl rfl (by rw [if_pos hz]) ?_)
    refine mr_go (mr_wStop (i := 5) (d := 0) rfl (by decide) (by decide) (fun _ => mr_c1 hb (by decide) e5 (by decide)) e5 rfl (by decide) ?_)
    exact mr_end (by decide) (hp _ ⟨rfl, rfl, ⟨y, hy, rfl⟩, by decide, rfl, rfl, rfl, rfl, (fun _ => rfl), rfl, rfl, rfl⟩)
  · refine mr_go (mr_wZero (i := 3) (d := 0) (t := 5) (j := 4) (v := v) rfl (by decide) (by decide) (fun _ => mr_c1 hb (by decide) e3 (by decide)) e3 n3 rfl (by decide) rfl rfl (by rw [if_neg hz]) ?_)
    refine mr_go (mr_wStop (i := 4) (d := 0) rfl (by decide) (by decide) (fun _ => mr_c1 hb (by decide) e4 (by decide)) e4 rfl (by decide) ?_)
    exact mr_end (by decide) (hp _ ⟨rfl, rfl, ⟨y, hy, rfl⟩, by decide, rfl, rfl, rfl, rfl, (fun _ => rfl), rfl, rfl, rfl⟩)
theorem mr_p5F {post : Int32 → St1 → Prop} {y f : Nat} {arg s : Int32} (hy : y ≤ 8) (hf : f < 4) (h3 : ∀ j, j < 4 → a3 j < 0) (e0 : a1 0 = 21) (e1 : a1 1 = 6) (e2 : a1 2 = 23) (n0 : a2 0 = nI f)
    (hs : a9 f = s) (hb1 : s.toInt8.toInt32 = s) (hn : ¬ s = 1)
    (hp : ∀ u, mr_Fin 2 0 0 0 0 0 a3 a9 a10 u → post 4 u) : wpX_run post (0, lv, fc, 0, nI y, rm, mks, sc, md, rs, rn, pc, wc, a1, a2, a3, a4, a5, a6, a7, a8, a9, a10, a11, a12, a13, a14, a15, a16, a17, a18, a19, a20, a21, a22) 0 arg := by
  refine mr_run h3 (fun b5 b6 b7 hb => ⟨4, ?_⟩)
  refine mr_go (mr_wTake (i := 0) (d := 0) rfl (by decide) (by decide) (fun _ => mr_c1 hb (by decide) e0 (by decide)) e0 n0 hf rfl (by decide) hs hb1 rfl ?_)
  refine mr_go (mr_wDup (i := 1) (d := 0) (s := s) rfl (by decide) (by decide) (fun _ => mr_c1 hb (by decide) e1 (by decide)) e1 rfl (by decide) rfl hb1 rfl ?_)
  refine mr_go (mr_wOutF (i := 2) (d := 1) (s := s) rfl (by decide) (by decide) (fun _ => mr_c1 hb (by decide) e2 (by decide)) e2 rfl (by decide) rfl hn ?_)
  exact mr_end (by decide) (hp _ ⟨rfl, rfl, ⟨y, hy, rfl⟩, by decide, rfl, rfl, rfl, rfl, (fun z => absurd z (by decide)), rfl, rfl, rfl⟩)
/-- NEW, DUP, STORE 3, TAKE f, PUT 0, LOAD 3, TAKE g, PUT 2, LOAD 3, GET m, RETURN -/
theorem mr_p6 {post : Int32 → St1 → Prop} {y f g m : Nat} {arg c s p s' q gs gn : Int32} (hy : y ≤ 8) (hf : f < 4) (hg : g < 4) (hm : m < 3) (h3 : ∀ j, j < 4 → a3 j < 0) (h9 : ∀ g, g < 4 → ¬ a9 g = 2)
    (e0 : a1 0 = 15) (e1 : a1 1 = 6) (e2 : a1 2 = 4) (e3 : a1 3 = 21) (e4 : a1 4 = 17) (e5 : a1 5 = 3) (e6 : a1 6 = 21) (e7 : a1 7 = 17) (e8 : a1 8 = 3) (e9 : a1 9 = 16) (e10 : a1 10 = 20)
    (n0 : a2 0 = c) (n2 : a2 2 = nI 3) (n3 : a2 3 = nI f) (n4 : a2 4 = nI 0) (n5 : a2 5 = nI 3) (n6 : a2 6 = nI g) (n7 : a2 7 = nI 2) (n8 : a2 8 = nI 3) (n9 : a2 9 = nI m)
    (hs : a9 f = s) (hb1 : s.toInt8.toInt32 = s) (hv : a10 f = p) (hs' : a9 g = s') (hb2 : s'.toInt8.toInt32 = s') (hv' : a10 g = q) (hgs : (m = 0 ∧ gs = s ∧ gn = p) ∨ (m = 2 ∧ gs = s' ∧ gn = q)) (hg2 : ¬ gs = 2)
    (hp : ∀ u, mr_Fin 11 1 gs gn 0 0 a3 a9 a10 u → post 0 u) : wpX_run post (0, lv, fc, 0, nI y, rm, mks, sc, md, rs, rn, pc, wc, a1, a2, a3, a4, a5, a6, a7, a8, a9, a10, a11, a12, a13, a14, a15, a16, a17, a18, a19, a20, a21, a22) 0 arg := by
  have hbg : gs.toInt8.toInt32 = gs := by
    rcases hgs with ⟨_, rfl, _⟩ | ⟨_, rfl, _⟩
    · exact hb1
    · exact hb2
  refine mr_run h3 (fun b5 b6 b7 hb => ⟨12, ?_⟩)
  refine mr_go (mr_wNew (i := 0) rfl (by decide) (by decide) (fun _ => mr_c1 hb (by decide) e0 (by decide)) e0 n0 rfl hy h9 ?_ ?_)
  · intro l hl
    rcases mr_four hl with rfl | rfl | rfl | rfl
    · show ¬ (0 : Int32) = 2
      decide
    · show ¬ (1 : Int32) = 2
      decide
    · show ¬ (0 : Int32) = 2
      decide
    · show ¬ (0 : Int32) = 2
      decide
  intro y' rm mks wc b17 b18 b19 b21 hy'
  have r18 : upd (upd b18 (3 * (24 + y') + 0) s) (3 * (24 + y') + 2) s' (3 * (24 + y') + m) = gs := by
    rcases hgs with ⟨rfl, rfl, _⟩ | ⟨rfl, rfl, _⟩
    · rw [pk_un (by omega), pk_us]
    · rw [pk_us]
  have r19 : upd (upd b19 (3 * (24 + y') + 0) p) (3 * (24 + y') + 2) q (3 * (24 + y') + m) = gn := by
    rcases hgs with ⟨rfl, _, rfl⟩ | ⟨rfl, _, rfl⟩
    · rw [pk_un (by omega), pk_us]
    · rw [pk_us]
  refine mr_go (mr_wDup (i := 1) (d := 0) (s := 2) (v := nI (24 + y')) rfl (by decide) (by decide) (fun _ => mr_c1 hb (by decide) e1 (by decide)) e1 rfl (by decide) rfl (by decide) rfl ?_)
  refine mr_go (mr_wStore (i := 2) (d := 1) (s := 2) (v := nI (24 + y')) rfl (by decide) (by decide) (fun _ => mr_c1 hb (by decide) e2 (by decide)) e2 n2 (by decide) rfl (by decide) rfl (by decide) rfl ?_)
  refine mr_go (mr_wTake (i := 3) (d := 1) rfl (by decide) (by decide) (fun _ => mr_c1 hb (by decide) e3 (by decide)) e3 n3 hf rfl (by decide) hs hb1 hv ?_)
  refine mr_go (mr_wPut (i := 4) (d := 0) (b := 24 + y') (n := 0) (s := s) (v := p) rfl (by decide) (by decide) (fun _ => mr_c1 hb (by decide) e4 (by decide)) e4 n4 (by decide) rfl (by decide) rfl hb1 rfl rfl rfl (by omega) (by omega) ?_)
  refine mr_go (mr_wLoad (i := 5) (d := 0) (l := 3) (s := 2) (v := nI (24 + y')) rfl (by decide) (by decide) (fun _ => mr_c2 hb (by decide) e6 (by decide)) e5 n5 (by decide) rfl (by decide) rfl (by decide) rfl ?_)
  refine mr_go (mr_wTake (i := 6) (d := 1) rfl (by decide) (by decide) (fun _ => mr_c1 hb (by decide) e6 (by decide)) e6 n6 hg rfl (by decide) hs' hb2 hv' ?_)
  refine mr_go (mr_wPut (i := 7) (d := 0) (b := 24 + y') (n := 2) (s := s') (v := q) rfl (by decide) (by decide) (fun _ => mr_c1 hb (by decide) e7 (by decide)) e7 n7 (by decide) rfl (by decide) rfl hb2 rfl rfl rfl (by omega) (by omega) ?_)
  by_cases hl : lv = 2
  · refine mr_go (mr_wLG (i := 8) (d := 0) (l := 3) (n := m) (b := 24 + y') rfl (by decide) (by decide) (by decide) hl ?_ n8 (by decide) n9 hm rfl (by decide) rfl rfl (by omega) r18 hbg r19 ?_)
    · rw [hb 8 (by decide), e8, e9]
      decide
    refine mr_go (mr_wRet (s := gs) (v := gn) (i := 10) (d := 0) rfl (by decide) (by decide) (fun _ => mr_c1 hb (by decide) e10 (by decide)) e10 rfl (by decide) rfl hg2 rfl ?_)
    exact mr_end (by decide) (hp _ ⟨rfl, rfl, ⟨y' + 1, by omega, rfl⟩, by decide, by decide, rfl, rfl, rfl, (fun z => absurd z (by decide)), rfl, rfl, rfl⟩)
  · refine mr_go (mr_wLoad (i := 8) (d := 0) (l := 3) (s := 2) (v := nI (24 + y')) rfl (by decide) (by decide) (fun z => absurd z hl) e8 n8 (by decide) rfl (by decide) rfl (by decide) rfl ?_)
    refine mr_go (mr_wGet (i := 9) (d := 0) (n := m) (b := 24 + y') rfl (by decide) (by decide) (fun _ => mr_c1 hb (by decide) e9 (by decide)) e9 n9 hm rfl (by decide) rfl rfl (by omega) r18 hbg r19 ?_)
    refine mr_go (mr_wRet (s := gs) (v := gn) (i := 10) (d := 0) rfl (by decide) (by decide) (fun _ => mr_c1 hb (by decide) e10 (by decide)) e10 rfl (by decide) rfl hg2 rfl ?_)
    exact mr_end (by decide) (hp _ ⟨rfl, rfl, ⟨y' + 1, by omega, rfl⟩, by decide, by decide, rfl, rfl, rfl, (fun z => absurd z (by decide)), rfl, rfl, rfl⟩)
/-- TAKE f, TAKE g, SWAP, POP, RETURN -/
theorem mr_p7 {post : Int32 → St1 → Prop} {y f g : Nat} {arg s p s' q : Int32} (hy : y ≤ 8) (hf : f < 4) (hg : g < 4) (h3 : ∀ j, j < 4 → a3 j < 0) (e0 : a1 0 = 21) (e1 : a1 1 = 21) (e2 : a1 2 = 7) (e3 : a1 3 = 5) (e4 : a1 4 = 20) (n0 : a2 0 = nI f) (n1 : a2 1 = nI g)
    (hs : a9 f = s) (hb1 : s.toInt8.toInt32 = s) (hv : a10 f = p) (hs' : a9 g = s') (hb2 : s'.toInt8.toInt32 = s') (hv' : a10 g = q) (hg2 : ¬ s' = 2)
    (hp : ∀ u, mr_Fin 5 0 s' q 0 0 a3 a9 a10 u → post 0 u) : wpX_run post (0, lv, fc, 0, nI y, rm, mks, sc, md, rs, rn, pc, wc, a1, a2, a3, a4, a5, a6, a7, a8, a9, a10, a11, a12, a13, a14, a15, a16, a17, a18, a19, a20, a21, a22) 0 arg := by
  refine mr_run h3 (fun b5 b6 b7 hb => ⟨6, ?_⟩)
  refine mr_go (mr_wTake (i := 0) (d := 0) rfl (by decide) (by decide) (fun _ => mr_c1 hb (by decide) e0 (by decide)) e0 n0 hf rfl (by decide) hs hb1 hv ?_)
  refine mr_go (mr_wTake (i := 1) (d := 1) rfl (by decide) (by decide) (fun _ => mr_c1 hb (by decide) e1 (by decide)) e1 n1 hg rfl (by decide) hs' hb2 hv' ?_)
  refine mr_go (mr_wSwap (i := 2) (d := 0) (s := s') (v := q) (s' := s) (v' := p) rfl (by decide) (by decide) (fun _ => mr_c1 hb (by decide) e2 (by decide)) e2 rfl (by decide) rfl hb2 rfl rfl hb1 rfl ?_)
  refine mr_go (mr_wPop (i := 3) (d := 1) rfl (by decide) (by decide) (fun _ => mr_c1 hb (by decide) e3 (by decide)) e3 rfl (by decide) ?_)
  refine mr_go (mr_wRet (i := 4) (d := 0) (s := s') (v := q) rfl (by decide) (by decide) (fun _ => mr_c1 hb (by decide) e4 (by decide)) e4 rfl (by decide) rfl hg2 rfl ?_)
  exact mr_end (by decide) (hp _ ⟨rfl, rfl, ⟨y, hy, rfl⟩, by decide, rfl, rfl, rfl, rfl, (fun z => absurd z (by decide)), rfl, rfl, rfl⟩)
end
end
section
/-! ===== the law's checks behind a run, its cases ===== -/
/-- the law's values and the state agree -/
def mr_Inv (v0 v1 v2 v3 : Int64) (u : St1) : Prop := match u with
  | (pr, lv, fc, ou, yu, rm, mks, sc, md, rs, rn, pc, wc, a1, a2, a3, a4, a5, a6, a7, a8, a9, a10, a11, a12, a13, a14, a15, a16, a17, a18, a19, a20, a21, a22) => ou = 0 ∧ (∃ y : Nat, y ≤ 8 ∧ yu = nI y) ∧ (∀ j, j < 4 → a3 j < 0) ∧ (∀ g, g < 4 → mr_val (mr_pk g v0 v1 v2 v3) (a9 g) (a10 g))
def mr_App (J : (Int64 → Int64 → Int64 → Int64 → Int32 → Int32 → Int32 → Int32 → Int32 → Int32 → Int32 → Int32 → Int32 → Int32 → Int32 → Int32 → Int32 → Int32 → (Nat → Int32) → (Nat → Int32) → (Nat → Int32) → (Nat → Int32) → (Nat → Int32) → (Nat → Int32) → (Nat → Int32) → (Nat → Int32) → (Nat → Int32) → (Nat → Int32) → (Nat → Int32) → (Nat → Int32) → (Nat → Int32) → (Nat → Int32) → (Nat → Int32) → (Nat → Int32) → (Nat → Int32) → (Nat → Int32) → (Nat → Int32) → (Nat → Int32) → (Nat → Int32) → (Nat → Int32) → Prop)) (v0 v1 v2 v3 : Int64) (x : Int32) (u : St1) : Prop := match u with
  | (pr, lv, fc, ou, yu, rm, mks, sc, md, rs, rn, pc, wc, a1, a2, a3, a4, a5, a6, a7, a8, a9, a10, a11, a12, a13, a14, a15, a16, a17, a18, a19, a20, a21, a22) => J v0 v1 v2 v3 x pr lv fc ou yu rm mks sc md rs rn pc wc a1 a2 a3 a4 a5 a6 a7 a8 a9 a10 a11 a12 a13 a14 a15 a16 a17 a18 a19 a20 a21 a22
theorem mr_set {x2 x4 x6 x8 x20 : Int64} {b9 b10 : Nat → Int32} {z : Nat} (hz : z < 4) (hw : mr_val x20 (b9 z) (b10 z)) (ho : ∀ g, g < 4 → ¬ g = z → mr_val (mr_pk g x2 x4 x6 x8) (b9 g) (b10 g)) :
    ∀ g, g < 4 → mr_val (mr_pk g (if z = 0 then x20 else x2) (if z = 1 then x20 else x4) (if z = 2 then x20 else x6) (if z = 3 then x20 else x8)) (b9 g) (b10 g) := by
  intro g hg
  by_cases e : g = z
  · subst e
    rcases mr_four hg with rfl | rfl | rfl | rfl <;> exact hw
  · have h := ho g hg e
    rcases mr_four hg with rfl | rfl | rfl | rfl <;> rcases mr_four hz with rfl | rfl | rfl | rfl <;> first | exact h | exact absurd rfl e
theorem mr_result {post : Int64 → Prop} {v w : Int64} {s n t m o : Int32} (hv : mr_val v s n) (hw : mr_val w t m) (h12 : o = 12 → post (if v = w then 5 else 1)) (hne : ¬ o = 12 → post (4 * (mr_res o n m).toInt64 + 1)) : wpL_result post () o v w := by
  refine nm_r (mr_vn hv) (nm_r (mr_vn hw) (br_c (fun e => br_c (fun q => ?_) (fun q => ?_)) (fun e => ?_)))
  · have h := h12 e
    rw [if_pos q] at h
    exact h
  · have h := h12 e
    rw [if_neg q] at h
    exact h
  · have h := hne e
    unfold mr_res at h
    refine br_c (fun q => ?_) (fun q => br_c (fun q2 => ?_) (fun q2 => br_c (fun q3 => ?_) (fun q3 => br_c (fun q4 => ?_) (fun q4 => ?_))))
    · rw [if_pos q] at h
      exact h
    · rw [if_neg q, if_pos q2] at h
      exact h
    · rw [if_neg q, if_neg q2, if_pos q3] at h
      exact h
    · rw [if_neg q, if_neg q2, if_neg q3, if_pos q4] at h
      exact h
    · rw [if_neg q, if_neg q2, if_neg q3, if_neg q4] at h
      exact h
section
variable {pr lv fc ou yu rm mks sc md rs rn pc wc : Int32} {a1 a2 a3 a4 a5 a6 a7 a8 a9 a10 a11 a12 a13 a14 a15 a16 a17 a18 a19 a20 a21 a22 : Nat → Int32}
theorem mr_984 {post : Int32 → Prop} {L : Nat} {xs : Nat → Int32} {J : (Int64 → Int64 → Int64 → Int64 → Int32 → Int32 → Int32 → Int32 → Int32 → Int32 → Int32 → Int32 → Int32 → Int32 → Int32 → Int32 → Int32 → Int32 → (Nat → Int32) → (Nat → Int32) → (Nat → Int32) → (Nat → Int32) → (Nat → Int32) → (Nat → Int32) → (Nat → Int32) → (Nat → Int32) → (Nat → Int32) → (Nat → Int32) → (Nat → Int32) → (Nat → Int32) → (Nat → Int32) → (Nat → Int32) → (Nat → Int32) → (Nat → Int32) → (Nat → Int32) → (Nat → Int32) → (Nat → Int32) → (Nat → Int32) → (Nat → Int32) → (Nat → Int32) → Prop)} {x2 x4 x6 x8 : Int64} {x10 : Int32} {kc ks : Nat} (hv : ∀ g, g < 4 → mr_val (mr_pk g x2 x4 x6 x8) (a9 g) (a10 g)) (hJ : J x2 x4 x6 x8 (x10 + 3) pr lv fc ou yu rm mks sc md rs rn pc wc a1 a2 a3 a4 a5 a6 a7 a8 a9 a10 a11 a12 a13 a14 a15 a16 a17 a18 a19 a20 a21 a22) :
    ∃ n, wL_law_984 post L xs J x2 x4 x6 x8 x10 kc ks pr lv fc ou yu rm mks sc md rs rn pc wc a1 a2 a3 a4 a5 a6 a7 a8 a9 a10 a11 a12 a13 a14 a15 a16 a17 a18 a19 a20 a21 a22 n 0 :=
  pk_loop (σ := Unit) (fun n i _ => wL_law_984 post L xs J x2 x4 x6 x8 x10 kc ks pr lv fc ou yu rm mks sc md rs rn pc wc a1 a2 a3 a4 a5 a6 a7 a8 a9 a10 a11 a12 a13 a14 a15 a16 a17 a18 a19 a20 a21 a22 n (nI i)) (fun _ _ => True) 4 0 () (by omega) trivial (fun n _ _ => pk_le 4 4 (fun _ => nm_e hJ) (fun z => absurd z (by omega)))
    (fun n i _ hi _ hw => pk_le 4 i (fun z => absurd z (by omega)) (fun _ => mr_pick hi (mr_s3 hi rfl (br_t (mr_vs (hv i hi)).symm (mr_n3 hi (hv i hi) rfl rfl (br_t (mr_vn (hv i hi)).symm (mr_s12 hi (mr_v2 (hv i hi)) (br_t rfl (nm_r (nI_1 i) (hw () trivial))))))))))
theorem mr_934 {post : Int32 → Prop} {L : Nat} {xs : Nat → Int32} {J : (Int64 → Int64 → Int64 → Int64 → Int32 → Int32 → Int32 → Int32 → Int32 → Int32 → Int32 → Int32 → Int32 → Int32 → Int32 → Int32 → Int32 → Int32 → (Nat → Int32) → (Nat → Int32) → (Nat → Int32) → (Nat → Int32) → (Nat → Int32) → (Nat → Int32) → (Nat → Int32) → (Nat → Int32) → (Nat → Int32) → (Nat → Int32) → (Nat → Int32) → (Nat → Int32) → (Nat → Int32) → (Nat → Int32) → (Nat → Int32) → (Nat → Int32) → (Nat → Int32) → (Nat → Int32) → (Nat → Int32) → (Nat → Int32) → (Nat → Int32) → (Nat → Int32) → Prop)} {x2 x4 x6 x8 x20 : Int64} {x10 x13 : Int32} {kc ks z : Nat} (hz : z < 4) (h13 : x13 = nI z) (hw : mr_val x20 (a9 z) (a10 z)) (ho : ∀ g, g < 4 → ¬ g = z → mr_val (mr_pk g x2 x4 x6 x8) (a9 g) (a10 g))
    (hJ : ∀ v0 v1 v2 v3, (∀ g, g < 4 → mr_val (mr_pk g v0 v1 v2 v3) (a9 g) (a10 g)) → J v0 v1 v2 v3 (x10 + 3) pr lv 0 ou yu rm 0 sc md rs rn pc 0 a1 a2 a3 a4 a5 a6 a7 a8 a9 a10 a11 a12 a13 a14 a15 a16 a17 a18 a19 a20 a21 a22) :
    wL_law_934 post L xs J x2 x4 x6 x8 x10 x13 x20 kc ks pr lv 0 ou yu rm mks sc md rs rn pc wc a1 a2 a3 a4 a5 a6 a7 a8 a9 a10 a11 a12 a13 a14 a15 a16 a17 a18 a19 a20 a21 a22 := by
  have h9 : ∀ g, g < 4 → ¬ a9 g = 2 := by
    intro g hg
    by_cases e : g = z
    · subst e
      exact mr_v2 hw
    · exact mr_v2 (ho g hg e)
  have hs := mr_set hz hw ho
  subst h13
  unfold wL_law_934
  refine mr_needed h9 (br_t rfl ?_)
  rcases mr_four hz with rfl | rfl | rfl | rfl
  · exact br_t rfl (br_f (by decide) (br_f (by decide) (br_f (by decide) (mr_984 hs (hJ _ _ _ _ hs)))))
  · exact br_f (by decide) (br_t rfl (br_f (by decide) (br_f (by decide) (mr_984 hs (hJ _ _ _ _ hs)))))
  · exact br_f (by decide) (br_f (by decide) (br_t rfl (br_f (by decide) (mr_984 hs (hJ _ _ _ _ hs)))))
  · exact br_f (by decide) (br_f (by decide) (br_f (by decide) (br_t rfl (mr_984 hs (hJ _ _ _ _ hs)))))
theorem mr_827 {post : Int32 → Prop} {L : Nat} {xs : Nat → Int32} {J : (Int64 → Int64 → Int64 → Int64 → Int32 → Int32 → Int32 → Int32 → Int32 → Int32 → Int32 → Int32 → Int32 → Int32 → Int32 → Int32 → Int32 → Int32 → (Nat → Int32) → (Nat → Int32) → (Nat → Int32) → (Nat → Int32) → (Nat → Int32) → (Nat → Int32) → (Nat → Int32) → (Nat → Int32) → (Nat → Int32) → (Nat → Int32) → (Nat → Int32) → (Nat → Int32) → (Nat → Int32) → (Nat → Int32) → (Nat → Int32) → (Nat → Int32) → (Nat → Int32) → (Nat → Int32) → (Nat → Int32) → (Nat → Int32) → (Nat → Int32) → (Nat → Int32) → Prop)} {x2 x4 x6 x8 x16 x20 x25 : Int64} {x10 x13 x14 x22 x23 x24 x27 : Int32} {kc ks z : Nat} {gs gn out : Int32} {b9 b10 : Nat → Int32} (hz : z < 4) (h13 : x13 = nI z)
    (hrun : ∀ (k : Nat) (post' : Int32 → St1 → Prop), (∀ u, mr_Fin x23 x27 gs gn x24 out a3 b9 b10 u → post' x22 u) → wpX_run post' (pr, nI k, fc, ou, yu, rm, mks, sc, md, rs, rn, pc, wc, a1, a2, a3, a4, a5, a6, a7, a8, a9, a10, a11, a12, a13, a14, a15, a16, a17, a18, a19, a20, a21, a22) 0 (x14 - 7))
    (h3 : ∀ j, j < 4 → a3 j < 0) (hgs : (x25 &&& 3).toInt32 = gs) (hgn : (x25 >>> ((2 : Int32).toInt64 &&& 63)).toInt32 = gn) (hout : x24 = 1 → (x16 >>> ((2 : Int32).toInt64 &&& 63)).toInt32 = out)
    (hw : mr_val x20 (b9 z) (b10 z)) (ho : ∀ g, g < 4 → ¬ g = z → mr_val (mr_pk g x2 x4 x6 x8) (b9 g) (b10 g))
    (hJ : ∀ v0 v1 v2 v3 u, mr_Inv v0 v1 v2 v3 u → mr_App J v0 v1 v2 v3 (x10 + 3) u) :
    wL_law_827 post L xs J x2 x4 x6 x8 x10 x13 x14 x16 x20 x22 x23 x24 x25 x27 kc ks pr lv fc ou yu rm mks sc md rs rn pc wc a1 a2 a3 a4 a5 a6 a7 a8 a9 a10 a11 a12 a13 a14 a15 a16 a17 a18 a19 a20 a21 a22 := by
  refine ⟨by decide, mr_level (k := ((x14 >>> ((11 : Int32) &&& 31)).toBitVec.toNat % 2 ^ 8) % 3) (Nat.mod_lt _ (by decide)) ?_ (br_f (by decide) (hrun _ _ ?_))⟩
  · rw [pk_and _ 8 (by decide)]
    exact pk_rem (Nat.lt_of_lt_of_le (Nat.mod_lt _ (by decide)) (by decide)) (by decide) (by decide)
  · intro u hu
    obtain ⟨u_pr, u_lv, u_fc, u_ou, u_yu, u_rm, u_mks, u_sc, u_md, u_rs, u_rn, u_pc, u_wc, u_a1, u_a2, u_a3, u_a4, u_a5, u_a6, u_a7, u_a8, u_a9, u_a10, u_a11, u_a12, u_a13, u_a14, u_a15, u_a16, u_a17, u_a18, u_a19, u_a20, u_a21, u_a22⟩ := u
    obtain ⟨r1, r2, ⟨y, hy, r3⟩, r4, r5, r6, r7, r8, r9, r10, r11, r12⟩ := hu
    subst r1 r2 r3 r10 r11 r12
    refine br_t rfl (br_t r4 (br_t r8 (br_t r5 (br_t (r6.trans hgs.symm) (br_t (r7.trans hgn.symm) (br_c (fun h1 => ?_) (fun _ => ?_)))))))
    · subst r8
      subst h1
      exact mr_out (r9 rfl) (br_t (hout rfl).symm (mr_934 hz h13 hw ho (fun v0 v1 v2 v3 hv => hJ v0 v1 v2 v3 (_, _, _, _, _, _, _, _, _, _, _, _, _, _, _, _, _, _, _, _, _, _, _, _, _, _, _, _, _, _, _, _, _, _, _) ⟨rfl, ⟨y, hy, rfl⟩, h3, hv⟩)))
    · exact mr_934 hz h13 hw ho (fun v0 v1 v2 v3 hv => hJ v0 v1 v2 v3 (_, _, _, _, _, _, _, _, _, _, _, _, _, _, _, _, _, _, _, _, _, _, _, _, _, _, _, _, _, _, _, _, _, _, _) ⟨rfl, ⟨y, hy, rfl⟩, h3, hv⟩)
/-- cases 0 and 1 -/
theorem mr_k01 {post : Int32 → Prop} {L : Nat} {xs : Nat → Int32} {J : (Int64 → Int64 → Int64 → Int64 → Int32 → Int32 → Int32 → Int32 → Int32 → Int32 → Int32 → Int32 → Int32 → Int32 → Int32 → Int32 → Int32 → Int32 → (Nat → Int32) → (Nat → Int32) → (Nat → Int32) → (Nat → Int32) → (Nat → Int32) → (Nat → Int32) → (Nat → Int32) → (Nat → Int32) → (Nat → Int32) → (Nat → Int32) → (Nat → Int32) → (Nat → Int32) → (Nat → Int32) → (Nat → Int32) → (Nat → Int32) → (Nat → Int32) → (Nat → Int32) → (Nat → Int32) → (Nat → Int32) → (Nat → Int32) → (Nat → Int32) → (Nat → Int32) → Prop)} {x2 x4 x6 x8 x16 : Int64} {x10 x14 : Int32} {kc ks y z : Nat} (hy : y ≤ 8) (hz : z < 4) (h3 : ∀ j, j < 4 → a3 j < 0) (hv : ∀ g, g < 4 → mr_val (mr_pk g x2 x4 x6 x8) (a9 g) (a10 g))
    (hJ : ∀ v0 v1 v2 v3 u, mr_Inv v0 v1 v2 v3 u → mr_App J v0 v1 v2 v3 (x10 + 3) u) : wL_law_196 post L xs J x2 x4 x6 x8 x10 (nI z) x14 x16 0 0 0 0 kc ks pr lv fc 0 (nI y) rm mks sc md rs rn pc wc a1 a2 a3 a4 a5 a6 a7 a8 a9 a10 a11 a12 a13 a14 a15 a16 a17 a18 a19 a20 a21 a22 := by
  refine br_c (fun _ => br_f (by decide) (br_f (by decide) ?_)) (fun _ => br_t rfl (br_t rfl ?_))
  · refine mr_cA (i := 0) (by decide) (by decide) (br_f (by decide) ?_)
    refine mr_cB (i := 1) (by decide) hz (by decide) (br_f (by decide) ?_)
    refine mr_cA (i := 2) (by decide) (by decide) (br_f (by decide) (br_f (by decide) ?_))
    exact mr_827 (gs := 0) (gn := 0) (out := 0) (b9 := upd a9 z 1) (b10 := upd a10 z x14) hz rfl (fun k post' hp => mr_p0 (k := x14) hy hz h3 rfl rfl rfl rfl rfl hp) h3 (by decide) (by decide) (fun h => absurd h (by decide)) (by rw [pk_us, pk_us]; exact mr_vi x14) (fun g hg e => by rw [pk_un e, pk_un e]; exact hv g hg) hJ
  · refine mr_cB (i := 0) (m := 1) (by decide) (by decide) (by decide) (br_f (by decide) ?_)
    refine mr_cB (i := 1) (by decide) hz (by decide) (br_f (by decide) ?_)
    refine mr_cA (i := 2) (by decide) (by decide) (br_f (by decide) (br_t rfl ?_))
    exact mr_827 (gs := 0) (gn := 0) (out := 0) (b9 := upd a9 z 1) (b10 := upd a10 z (x14 - 7)) hz rfl (fun k post' hp => mr_p1 hy hz h3 rfl rfl rfl rfl rfl hp) h3 (by decide) (by decide) (fun h => absurd h (by decide)) (by rw [pk_us, pk_us]; exact mr_vi (x14 - 7)) (fun g hg e => by rw [pk_un e, pk_un e]; exact hv g hg) hJ
/-- cases 3 and 4 -/
theorem mr_k34 {post : Int32 → Prop} {L : Nat} {xs : Nat → Int32} {J : (Int64 → Int64 → Int64 → Int64 → Int32 → Int32 → Int32 → Int32 → Int32 → Int32 → Int32 → Int32 → Int32 → Int32 → Int32 → Int32 → Int32 → Int32 → (Nat → Int32) → (Nat → Int32) → (Nat → Int32) → (Nat → Int32) → (Nat → Int32) → (Nat → Int32) → (Nat → Int32) → (Nat → Int32) → (Nat → Int32) → (Nat → Int32) → (Nat → Int32) → (Nat → Int32) → (Nat → Int32) → (Nat → Int32) → (Nat → Int32) → (Nat → Int32) → (Nat → Int32) → (Nat → Int32) → (Nat → Int32) → (Nat → Int32) → (Nat → Int32) → (Nat → Int32) → Prop)} {x2 x4 x6 x8 : Int64} {x10 x14 : Int32} {kc ks y f g z k : Nat} (hy : y ≤ 8) (hf : f < 4) (hg : g < 4) (hz : z < 4) (hk : k < 5) (h3 : ∀ j, j < 4 → a3 j < 0) (hv : ∀ g, g < 4 → mr_val (mr_pk g x2 x4 x6 x8) (a9 g) (a10 g))
    (hJ : ∀ v0 v1 v2 v3 u, mr_Inv v0 v1 v2 v3 u → mr_App J v0 v1 v2 v3 (x10 + 3) u) :
    wL_law_353 post L xs J x2 x4 x6 x8 x10 (nI f) (nI g) (nI z) x14 (nI (8 + k)) (mr_pk f x2 x4 x6 x8) (mr_pk g x2 x4 x6 x8) (mr_pk z x2 x4 x6 x8) 0 0 0 0 kc ks pr lv fc 0 (nI y) rm mks sc md rs rn pc wc a1 a2 a3 a4 a5 a6 a7 a8 a9 a10 a11 a12 a13 a14 a15 a16 a17 a18 a19 a20 a21 a22 := by
  have hk5 : k = 0 ∨ k = 1 ∨ k = 2 ∨ k = 3 ∨ k = 4 := by omega
  have vf := hv f hf
  have vg := hv g hg
  refine mr_cB (i := 0) (by decide) hf (by decide) (br_f (by decide) ?_)
  refine mr_cB (i := 1) (by decide) hg (by decide) (br_f (by decide) ?_)
  refine mr_cA (i := 2) (by decide) (by rcases hk5 with rfl | rfl | rfl | rfl | rfl <;> decide) (br_f (by decide) ?_)
  refine mr_cB (i := 3) (by decide) hz (by decide) (br_f (by decide) ?_)
  refine mr_cA (i := 4) (by decide) (by decide) (br_f (by decide) (mr_result vf vg (fun e => br_t e ?_) (fun e => br_f e ?_)))
  · have e4 : k = 4 := by
      have := (nI_eq (a := 8 + k) (b := 12) (by omega) (by decide)).mp e
      omega
    subst e4
    refine mr_827 (gs := 0) (gn := 0) (out := 0) (b9 := upd a9 z 1) (b10 := upd a10 z (if a9 g = a9 f ∧ a10 g = a10 f then 1 else 0)) hz rfl (fun k post' hp => mr_p3S hy hf hg hz h3 rfl rfl rfl rfl rfl rfl rfl rfl rfl (mr_vb vf) rfl rfl (mr_vb vg) rfl hp) h3 (by decide) (by decide) (fun h => absurd h (by decide)) ?_ (fun g hg e => by rw [pk_un e, pk_un e]; exact hv g hg) hJ
    rw [pk_us, pk_us]
    by_cases q : mr_pk f x2 x4 x6 x8 = mr_pk g x2 x4 x6 x8
    · have q2 := (mr_veq vf vg).mp q
      rw [if_pos q, if_pos ⟨q2.1.symm, q2.2.symm⟩]
      exact mr_vi 1
    · have q2 : ¬ (a9 g = a9 f ∧ a10 g = a10 f) := fun h => q ((mr_veq vf vg).mpr ⟨h.1.symm, h.2.symm⟩)
      rw [if_neg q, if_neg q2]
      exact mr_vi 0
  · have k4 : k < 4 := by
      rcases Nat.lt_or_ge k 4 with h | h
      · exact h
      · exact absurd (show nI (8 + k) = 12 by rw [show k = 4 by omega]; rfl) e
    have o8 : ¬ nI (8 + k) < 8 := nI_nlt (b := 8) (by omega) (by omega)
    have o11 : ¬ 11 < nI (8 + k) := nI_nlt (a := 11) (by omega) (by decide)
    refine br_c (fun q => ?_) (fun q => ?_)
    · exact mr_827 (gs := 0) (gn := 0) (out := 0) (b9 := a9) (b10 := a10) hz rfl (fun k post' hp => mr_p3F hy hf hg h3 rfl rfl rfl rfl rfl rfl o8 o11 rfl (mr_vb vf) rfl (mr_vb vg) ((mr_vand vf vg).mp q) hp) h3 (by decide) (by decide) (fun h => absurd h (by decide)) (hv z hz) (fun g hg _ => hv g hg) hJ
    · have q2 : a9 f = 1 ∧ a9 g = 1 := Classical.byContradiction (fun h => q ((mr_vand vf vg).mpr h))
      exact mr_827 (gs := 0) (gn := 0) (out := 0) (b9 := upd a9 z 1) (b10 := upd a10 z (mr_res (nI (8 + k)) (a10 f) (a10 g))) hz rfl (fun k post' hp => mr_p3 hy hf hg hz h3 rfl rfl rfl rfl rfl rfl rfl rfl o8 o11 q2.1 rfl q2.2 rfl hp) h3 (by decide) (by decide) (fun h => absurd h (by decide)) (by rw [pk_us, pk_us]; exact mr_vi _) (fun g hg e => by rw [pk_un e, pk_un e]; exact hv g hg) hJ
/-- case 5, behind the code -/
theorem mr_k5 {post : Int32 → Prop} {L : Nat} {xs : Nat → Int32} {J : (Int64 → Int64 → Int64 → Int64 → Int32 → Int32 → Int32 → Int32 → Int32 → Int32 → Int32 → Int32 → Int32 → Int32 → Int32 → Int32 → Int32 → Int32 → (Nat → Int32) → (Nat → Int32) → (Nat → Int32) → (Nat → Int32) → (Nat → Int32) → (Nat → Int32) → (Nat → Int32) → (Nat → Int32) → (Nat → Int32) → (Nat → Int32) → (Nat → Int32) → (Nat → Int32) → (Nat → Int32) → (Nat → Int32) → (Nat → Int32) → (Nat → Int32) → (Nat → Int32) → (Nat → Int32) → (Nat → Int32) → (Nat → Int32) → (Nat → Int32) → (Nat → Int32) → Prop)} {x2 x4 x6 x8 : Int64} {x10 x14 : Int32} {kc ks y f z : Nat} (hy : y ≤ 8) (hf : f < 4) (hz : z < 4) (h3 : ∀ j, j < 4 → a3 j < 0) (hv : ∀ g, g < 4 → mr_val (mr_pk g x2 x4 x6 x8) (a9 g) (a10 g))
    (hJ : ∀ v0 v1 v2 v3 u, mr_Inv v0 v1 v2 v3 u → mr_App J v0 v1 v2 v3 (x10 + 3) u)
    (e0 : a1 0 = 21) (e1 : a1 1 = 6) (e2 : a1 2 = 23) (e3 : a1 3 = 14) (e4 : a1 4 = 0) (e5 : a1 5 = 0) (n0 : a2 0 = nI f) (n3 : a2 3 = nI 5) :
    (((mr_pk f x2 x4 x6 x8 &&& 3) = 1 → (wL_law_544 post L xs J x2 x4 x6 x8 x10 (nI z) x14 (mr_pk f x2 x4 x6 x8) (mr_pk z x2 x4 x6 x8) 0 0 1 kc ks 0 lv fc 0 (nI y) rm mks sc md rs rn pc wc a1 a2 a3 a4 a5 a6 a7 a8 a9 a10 a11 a12 a13 a14 a15 a16 a17 a18 a19 a20 a21 a22)) ∧ (¬ (mr_pk f x2 x4 x6 x8 &&& 3) = 1 → (wL_law_544 post L xs J x2 x4 x6 x8 x10 (nI z) x14 (mr_pk f x2 x4 x6 x8) (mr_pk z x2 x4 x6 x8) 0 0 0 kc ks 0 lv fc 0 (nI y) rm mks sc md rs rn pc wc a1 a2 a3 a4 a5 a6 a7 a8 a9 a10 a11 a12 a13 a14 a15 a16 a17 a18 a19 a20 a21 a22))) := by
  have vf := hv f hf
  refine br_c (fun q => ?_) (fun q => ?_)
  · refine br_f (by decide) (br_f (by decide) (br_f (by decide) ?_))
    exact mr_827 (gs := 0) (gn := 0) (out := a10 f) (b9 := a9) (b10 := a10) hz rfl (fun k post' hp => mr_p5 hy hf h3 e0 e1 e2 e3 e4 e5 n0 n3 ((mr_v3 vf).mp q) rfl hp) h3 (by decide) (by decide) (fun _ => mr_vn vf) (hv z hz) (fun g hg _ => hv g hg) hJ
  · refine br_t rfl (br_t rfl (br_t rfl ?_))
    exact mr_827 (gs := 0) (gn := 0) (out := 0) (b9 := a9) (b10 := a10) hz rfl (fun k post' hp => mr_p5F hy hf h3 e0 e1 e2 n0 rfl (mr_vb vf) (fun h => q ((mr_v3 vf).mpr h)) hp) h3 (by decide) (by decide) (fun h => absurd h (by decide)) (hv z hz) (fun g hg _ => hv g hg) hJ
/-- case 6, behind the first eight instructions -/
theorem mr_k6 {post : Int32 → Prop} {L : Nat} {xs : Nat → Int32} {J : (Int64 → Int64 → Int64 → Int64 → Int32 → Int32 → Int32 → Int32 → Int32 → Int32 → Int32 → Int32 → Int32 → Int32 → Int32 → Int32 → Int32 → Int32 → (Nat → Int32) → (Nat → Int32) → (Nat → Int32) → (Nat → Int32) → (Nat → Int32) → (Nat → Int32) → (Nat → Int32) → (Nat → Int32) → (Nat → Int32) → (Nat → Int32) → (Nat → Int32) → (Nat → Int32) → (Nat → Int32) → (Nat → Int32) → (Nat → Int32) → (Nat → Int32) → (Nat → Int32) → (Nat → Int32) → (Nat → Int32) → (Nat → Int32) → (Nat → Int32) → (Nat → Int32) → Prop)} {x2 x4 x6 x8 : Int64} {x10 x14 c : Int32} {kc ks y f g z : Nat} (hy : y ≤ 8) (hf : f < 4) (hg : g < 4) (hz : z < 4) (h3 : ∀ j, j < 4 → a3 j < 0) (hv : ∀ g, g < 4 → mr_val (mr_pk g x2 x4 x6 x8) (a9 g) (a10 g))
    (hJ : ∀ v0 v1 v2 v3 u, mr_Inv v0 v1 v2 v3 u → mr_App J v0 v1 v2 v3 (x10 + 3) u)
    (e0 : a1 0 = 15) (e1 : a1 1 = 6) (e2 : a1 2 = 4) (e3 : a1 3 = 21) (e4 : a1 4 = 17) (e5 : a1 5 = 3) (e6 : a1 6 = 21) (e7 : a1 7 = 17)
    (n0 : a2 0 = c) (n2 : a2 2 = nI 3) (n3 : a2 3 = nI f) (n4 : a2 4 = nI 0) (n5 : a2 5 = nI 3) (n6 : a2 6 = nI g) (n7 : a2 7 = nI 2) :
    (((x14 &&& 1) = 0 → (wL_law_690 post L xs J x2 x4 x6 x8 x10 (nI z) x14 (mr_pk f x2 x4 x6 x8) (mr_pk g x2 x4 x6 x8) (mr_pk z x2 x4 x6 x8) 0 0 1 kc ks 0 lv fc 0 (nI y) rm mks sc md rs rn pc wc a1 a2 a3 a4 a5 a6 a7 a8 a9 a10 a11 a12 a13 a14 a15 a16 a17 a18 a19 a20 a21 a22)) ∧ (¬ (x14 &&& 1) = 0 → (wL_law_690 post L xs J x2 x4 x6 x8 x10 (nI z) x14 (mr_pk f x2 x4 x6 x8) (mr_pk g x2 x4 x6 x8) (mr_pk z x2 x4 x6 x8) 0 0 0 kc ks 0 lv fc 0 (nI y) rm mks sc md rs rn pc wc a1 a2 a3 a4 a5 a6 a7 a8 a9 a10 a11 a12 a13 a14 a15 a16 a17 a18 a19 a20 a21 a22))) := by
  have vf := hv f hf
  have vg := hv g hg
  refine br_c (fun _ => ?_) (fun _ => ?_)
  · refine mr_cB (i := 8) (m := 3) (by decide) (by decide) (by decide) (br_f (by decide) (br_f (by decide) ?_))
    refine mr_cC (i := 9) (m := 0) (by decide) (by decide) (by decide) (br_f (by decide) ?_)
    refine mr_cA (i := 10) (by decide) (by decide) (br_f (by decide) (br_f (by decide) ?_))
    exact mr_827 (gs := a9 f) (gn := a10 f) (out := 0) (b9 := a9) (b10 := a10) hz rfl (fun k post' hp => mr_p6 (m := 0) hy hf hg (by decide) h3 (fun g hg => mr_v2 (hv g hg)) e0 e1 e2 e3 e4 e5 e6 e7 rfl rfl rfl n0 n2 n3 n4 n5 n6 n7 rfl rfl rfl (mr_vb vf) rfl rfl (mr_vb vg) rfl (Or.inl ⟨rfl, rfl, rfl⟩) (mr_v2 vf) hp) h3 (mr_vs vf) (mr_vn vf) (fun h => absurd h (by decide)) (hv z hz) (fun g hg _ => hv g hg) hJ
  · refine mr_cB (i := 8) (m := 3) (by decide) (by decide) (by decide) (br_f (by decide) (br_t rfl ?_))
    refine mr_cC (i := 9) (m := 2) (by decide) (by decide) (by decide) (br_f (by decide) ?_)
    refine mr_cA (i := 10) (by decide) (by decide) (br_f (by decide) (br_t rfl ?_))
    exact mr_827 (gs := a9 g) (gn := a10 g) (out := 0) (b9 := a9) (b10 := a10) hz rfl (fun k post' hp => mr_p6 (m := 2) hy hf hg (by decide) h3 (fun g hg => mr_v2 (hv g hg)) e0 e1 e2 e3 e4 e5 e6 e7 rfl rfl rfl n0 n2 n3 n4 n5 n6 n7 rfl rfl rfl (mr_vb vf) rfl rfl (mr_vb vg) rfl (Or.inr ⟨rfl, rfl, rfl⟩) (mr_v2 vg) hp) h3 (mr_vs vg) (mr_vn vg) (fun h => absurd h (by decide)) (hv z hz) (fun g hg _ => hv g hg) hJ
end
end
section
/-! ===== the law's loop, and what is owed ===== -/
section
variable {pr lv fc ou yu rm mks sc md rs rn pc wc : Int32} {a1 a2 a3 a4 a5 a6 a7 a8 a9 a10 a11 a12 a13 a14 a15 a16 a17 a18 a19 a20 a21 a22 : Nat → Int32}
/-- one round of the law's loop -/
theorem mr_step {post : Int32 → Prop} {L : Nat} {xs : Nat → Int32} {kc ks n i y : Nat} {x2 x4 x6 x8 : Int64} (hL : L ≤ 260) (hi : i + 3 ≤ L) (hy : y ≤ 8) (h3 : ∀ j, j < 4 → a3 j < 0) (hv : ∀ g, g < 4 → mr_val (mr_pk g x2 x4 x6 x8) (a9 g) (a10 g))
    (hJ : ∀ v0 v1 v2 v3 u, mr_Inv v0 v1 v2 v3 u → mr_App (wL_law_22 post L xs kc ks n) v0 v1 v2 v3 (nI i + 3) u) : wL_law_22 post L xs kc ks (n + 1) x2 x4 x6 x8 (nI i) pr lv fc 0 (nI y) rm mks sc md rs rn pc wc a1 a2 a3 a4 a5 a6 a7 a8 a9 a10 a11 a12 a13 a14 a15 a16 a17 a18 a19 a20 a21 a22 := by
  have c : ¬ (Int32.ofNat L - 3) < nI i := by
    rw [Int32.lt_iff_toInt_lt, show (Int32.ofNat L - 3 : Int32) = nI L - nI 3 from rfl, pk_sub_toInt (by omega) (by decide), nI_toInt (by omega)]
    omega
  have i1 : vp_in (nI i + 1) L := pk_in (i + 1) L (by omega) (nI_1 i)
  have i2 : vp_in (nI i + 2) L := pk_in (i + 2) L (by omega) (nI_add i 2)
  have i0 : vp_in (nI i) L := pk_in i L (by omega)
  obtain ⟨f, hf, ef⟩ := pk_andE (xs (nI i + 1).toNatClampNeg) (m := 3) 2 (by decide)
  obtain ⟨g, hg, eg⟩ := pk_andE (xs (nI i + 1).toNatClampNeg >>> ((2 : Int32) &&& 31)) (m := 3) 2 (by decide)
  obtain ⟨z, hz, ez⟩ := pk_andE (xs (nI i + 1).toNatClampNeg >>> ((4 : Int32) &&& 31)) (m := 3) 2 (by decide)
  obtain ⟨t, ht, et⟩ := pk_andE (xs (nI i).toNatClampNeg) (m := 7) 3 (by decide)
  obtain ⟨k, hk, ek⟩ : ∃ k : Nat, k < 5 ∧ (8 + ((xs (nI i + 2).toNatClampNeg >>> ((3 : Int32) &&& 31) &&& 255) - (xs (nI i + 2).toNatClampNeg >>> ((3 : Int32) &&& 31) &&& 255) / 5 * 5)) = nI (8 + k) := by
    refine ⟨((xs (nI i + 2).toNatClampNeg >>> ((3 : Int32) &&& 31)).toBitVec.toNat % 2 ^ 8) % 5, Nat.mod_lt _ (by decide), ?_⟩
    rw [pk_and _ 8 (by decide), show (5 : Int32) = nI 5 from rfl, pk_rem (Nat.lt_of_lt_of_le (Nat.mod_lt _ (by decide)) (by decide)) (by decide) (by decide), show (8 : Int32) = nI 8 from rfl, nI_add]
  have hf4 : f < 4 := hf
  have hg4 : g < 4 := hg
  have hz4 : z < 4 := hz
  have vf := hv f hf4
  have vg := hv g hg4
  refine br_f c ⟨i1, nm_r ef ⟨i1, nm_r eg ⟨i1, nm_r ez ⟨i2, nm_e ⟨by decide, nm_r ek (mr_pick hf4 (mr_pick hg4 (mr_pick hz4 ⟨i0, nm_r et ?_⟩)))⟩⟩⟩⟩⟩
  have t8 : t = 0 ∨ t = 1 ∨ t = 2 ∨ t = 3 ∨ t = 4 ∨ t = 5 ∨ t = 6 ∨ t = 7 := by omega
  rcases t8 with rfl | rfl | rfl | rfl | rfl | rfl | rfl | rfl
  · exact br_f (by decide) (br_f (by decide) (br_t rfl (mr_k01 hy hz4 h3 hv hJ)))
  · exact br_f (by decide) (br_f (by decide) (br_f (by decide) (br_t rfl (mr_k01 hy hz4 h3 hv hJ))))
  · refine br_f (by decide) (br_f (by decide) (br_f (by decide) (br_f (by decide) (br_t rfl ?_))))
    refine mr_cA (i := 0) (by decide) (by decide) (br_f (by decide) ?_)
    refine mr_cB (i := 1) (by decide) hz4 (by decide) (br_f (by decide) ?_)
    refine mr_cB (i := 2) (by decide) hz4 (by decide) (br_f (by decide) ?_)
    refine mr_cA (i := 3) (by decide) (by decide) (br_f (by decide) ?_)
    exact mr_827 (gs := 0) (gn := 0) (out := 0) (b9 := upd a9 z 0) (b10 := upd a10 z 0) hz4 rfl (fun k post' hp => mr_p2 hy hz4 h3 rfl rfl rfl rfl rfl rfl hp) h3 (by decide) (by decide) (fun h => absurd h (by decide)) (by rw [pk_us, pk_us]; exact mr_v0) (fun g hg e => by rw [pk_un e, pk_un e]; exact hv g hg) hJ
  · exact br_f (by decide) (br_f (by decide) (br_f (by decide) (br_f (by decide) (br_f (by decide) (br_t rfl (mr_k34 hy hf4 hg4 hz4 hk h3 hv hJ))))))
  · exact br_f (by decide) (br_f (by decide) (br_f (by decide) (br_f (by decide) (br_f (by decide) (br_f (by decide) (br_t rfl (mr_k34 hy hf4 hg4 hz4 hk h3 hv hJ)))))))
  · refine br_f (by decide) (br_f (by decide) (br_f (by decide) (br_f (by decide) (br_f (by decide) (br_f (by decide) (br_f (by decide) (br_t rfl ?_)))))))
    refine mr_cB (i := 0) (by decide) hf4 (by decide) (br_f (by decide) ?_)
    refine mr_cA (i := 1) (by decide) (by decide) (br_f (by decide) ?_)
    refine mr_cA (i := 2) (by decide) (by decide) (br_f (by decide) ?_)
    refine mr_cA (i := 3) (by decide) (by decide) (br_f (by decide) ?_)
    refine mr_cA (i := 4) (by decide) (by decide) (br_f (by decide) ?_)
    refine mr_cA (i := 5) (by decide) (by decide) (br_f (by decide) ?_)
    exact mr_k5 hy hf4 hz4 h3 hv hJ rfl rfl rfl rfl rfl rfl rfl rfl
  · refine br_f (by decide) (br_f (by decide) (br_f (by decide) (br_f (by decide) (br_f (by decide) (br_f (by decide) (br_f (by decide) (br_f (by decide) (br_t rfl ?_))))))))
    refine mr_cB (i := 0) (by decide) hf4 (by decide) (br_f (by decide) ?_)
    refine mr_cA (i := 1) (by decide) (by decide) (br_f (by decide) ?_)
    refine mr_cB (i := 2) (m := 3) (by decide) (by decide) (by decide) (br_f (by decide) ?_)
    refine mr_cB (i := 3) (by decide) hf4 (by decide) (br_f (by decide) ?_)
    refine mr_cC (i := 4) (m := 0) (by decide) (by decide) (by decide) (br_f (by decide) ?_)
    refine mr_cB (i := 5) (m := 3) (by decide) (by decide) (by decide) (br_f (by decide) ?_)
    refine mr_cB (i := 6) (by decide) hg4 (by decide) (br_f (by decide) ?_)
    refine mr_cC (i := 7) (m := 2) (by decide) (by decide) (by decide) (br_f (by decide) ?_)
    exact mr_k6 hy hf4 hg4 hz4 h3 hv hJ rfl rfl rfl rfl rfl rfl rfl rfl rfl rfl rfl rfl rfl rfl rfl
  · refine br_f (by decide) (br_t (by decide) ?_)
    refine mr_cB (i := 0) (by decide) hf4 (by decide) (br_f (by decide) ?_)
    refine mr_cB (i := 1) (by decide) hg4 (by decide) (br_f (by decide) ?_)
    refine mr_cA (i := 2) (by decide) (by decide) (br_f (by decide) ?_)
    refine mr_cA (i := 3) (by decide) (by decide) (br_f (by decide) ?_)
    refine mr_cA (i := 4) (by decide) (by decide) (br_f (by decide) ?_)
    exact mr_827 (gs := a9 g) (gn := a10 g) (out := 0) (b9 := a9) (b10 := a10) hz4 rfl (fun k post' hp => mr_p7 hy hf4 hg4 h3 rfl rfl rfl rfl rfl rfl rfl rfl (mr_vb vf) rfl rfl (mr_vb vg) rfl (mr_v2 vg) hp) h3 (mr_vs vg) (mr_vn vg) (fun h => absurd h (by decide)) (hv z hz4) (fun g hg _ => hv g hg) hJ
end
theorem mr_loop {post : Int32 → Prop} {L : Nat} {xs : Nat → Int32} {kc ks : Nat} (hL : L ≤ 260) (hp : post 1) : ∀ (n i : Nat), L < i + 3 * n + 3 → i ≤ L → ∀ v0 v1 v2 v3 u, mr_Inv v0 v1 v2 v3 u → mr_App (wL_law_22 post L xs kc ks (n + 1)) v0 v1 v2 v3 (nI i) u := by
  have ex : ∀ (n i : Nat), L < i + 3 → i ≤ L → ∀ v0 v1 v2 v3 u, mr_App (wL_law_22 post L xs kc ks (n + 1)) v0 v1 v2 v3 (nI i) u := by
    intro n i h hi v0 v1 v2 v3 u
    obtain ⟨pr, lv, fc, ou, yu, rm, mks, sc, md, rs, rn, pc, wc, a1, a2, a3, a4, a5, a6, a7, a8, a9, a10, a11, a12, a13, a14, a15, a16, a17, a18, a19, a20, a21, a22⟩ := u
    refine br_t ?_ hp
    rw [Int32.lt_iff_toInt_lt, show (Int32.ofNat L - 3 : Int32) = nI L - nI 3 from rfl, pk_sub_toInt (by omega) (by decide), nI_toInt (by omega)]
    omega
  intro n
  induction n with
  | zero => exact fun i h hi v0 v1 v2 v3 u _ => ex 0 i (by omega) hi v0 v1 v2 v3 u
  | succ n ih =>
    intro i h hi v0 v1 v2 v3 u hI
    by_cases e : i + 3 ≤ L
    · obtain ⟨pr, lv, fc, ou, yu, rm, mks, sc, md, rs, rn, pc, wc, a1, a2, a3, a4, a5, a6, a7, a8, a9, a10, a11, a12, a13, a14, a15, a16, a17, a18, a19, a20, a21, a22⟩ := u
      obtain ⟨r1, ⟨y, hy, r2⟩, h3, hv⟩ := hI
      subst r1 r2
      refine mr_step hL e hy h3 hv (fun w0 w1 w2 w3 u' hu' => ?_)
      rw [show (nI i + 3 : Int32) = nI (i + 3) from nI_add i 3]
      exact ih (i + 3) (by omega) e w0 w1 w2 w3 u' hu'
    · exact ex (n + 1) i (by omega) hi v0 v1 v2 v3 u
theorem i_vc (xs : Nat → Int32) (L : Nat) (hL : L ≤ 260) : wpL_law (fun r => r = 1) L xs := by
  refine ⟨22, 872, by decide, by decide, mr_init (by decide) (by decide) (fun b3 b4 h3 => ⟨88, ?_⟩)⟩
  have h := mr_loop (post := fun r => r = 1) (xs := xs) (kc := 1 + 22) (ks := 35 + 872) hL rfl 87 0 (by omega) (by omega) 0 0 0 0 (0, 2, 0, 0, 0, 0, 0, 0, 0, 0, 0, 0, 0, (fun _ => 0), (fun _ => 0), b3, b4, (fun _ => 0), (fun _ => 0), (fun _ => 0), (fun _ => 0), (fun _ => 0), (fun _ => 0), (fun _ => 0), (fun _ => 0), (fun _ => 0), (fun _ => 0), (fun _ => 0), (fun _ => 0), (fun _ => 0), (fun _ => 0), (fun _ => 0), (fun _ => 0), (fun _ => 0), (fun _ => 0)) ⟨rfl, ⟨0, by decide, rfl⟩, h3, fun g hg => by rcases mr_four hg with rfl | rfl | rfl | rfl <;> exact mr_v0⟩
  exact h
end
