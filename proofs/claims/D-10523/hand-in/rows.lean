section
/-! bits and bytes -/
theorem zq_or (a b : Nat) : nI a ||| nI b = nI (a ||| b) := by
  apply Int32.toBitVec_inj.1
  show BitVec.ofNat 32 a ||| BitVec.ofNat 32 b = BitVec.ofNat 32 (a ||| b)
  apply BitVec.eq_of_getLsbD_eq
  intro i hi
  simp [hi]
theorem zq_cat {x y : Nat} (hy : y < 256) : nI (x * 256) ||| nI y = nI (x * 256 + y) := by
  have h : y < 2 ^ 8 := hy
  have h1 : x * 2 ^ 8 ||| y = x * 2 ^ 8 + y := by rw [← Nat.shiftLeft_eq, Nat.shiftLeft_add_eq_or_of_lt h]
  rw [zq_or]
  exact congrArg nI h1
theorem zq_and2047 {i : Nat} (h : i < 2048) : nI i &&& 2047 = nI i := by
  rw [pk_andN (by omega) 11 (by decide), Nat.mod_eq_of_lt (show i < 2 ^ 11 from h)]
theorem zq_and255 {n : Nat} (h : n < 2 ^ 32) : nI n &&& 255 = nI (n % 256) := pk_andN h 8 (by decide)
theorem zq_and65535 {n : Nat} (h : n < 2 ^ 32) : nI n &&& 65535 = nI (n % 65536) := pk_andN h 16 (by decide)
theorem zq_shr8 {n : Nat} (h : n < 2 ^ 31) : nI n >>> ((8 : Int32) &&& 31) = nI (n / 256) := pk_shrN h _ 8 (by decide)
theorem zq_shl8 {n : Nat} (h : n < 256) : nI n <<< ((8 : Int32) &&& 31) = nI (n * 256) := pk_shlN _ 8 (by decide) (by omega)
theorem zq_word {lo hi : Nat} (h : lo < 256) (g : hi < 256) : nI lo ||| (nI hi <<< ((8 : Int32) &&& 31)) = nI (lo + 256 * hi) := by
  rw [zq_shl8 g, Int32.or_comm, zq_cat h]
  exact congrArg nI (by omega)
theorem zq_pr {hi lo : Nat} (g : hi < 256) (h : lo < 256) : (nI hi <<< ((8 : Int32) &&& 31)) ||| nI lo = nI (256 * hi + lo) := by
  rw [zq_shl8 g, zq_cat h]
  exact congrArg nI (by omega)
theorem zq_bp (x : Int32) : x.toInt8.toInt32 &&& 255 = x &&& 255 := by
  apply Int32.toBitVec_inj.mp
  rw [Int32.toBitVec_and, Int32.toBitVec_and, Int8.toBitVec_toInt32, Int32.toBitVec_toInt8]
  apply BitVec.eq_of_getLsbD_eq
  intro i hi
  rw [BitVec.getLsbD_and, BitVec.getLsbD_and]
  have hm : ∀ i < 32, 8 ≤ i → (255 : Int32).toBitVec.getLsbD i = false := by decide
  rcases Nat.lt_or_ge i 8 with z | z
  · rw [BitVec.getLsbD_signExtend, BitVec.getLsbD_signExtend, if_pos z, if_pos hi]
    simp only [z, hi, decide_true, Bool.true_and]
  · rw [hm i hi z]; simp
theorem zq_sb {n : Nat} (h : n < 2 ^ 32) : (nI n).toInt8.toInt32 &&& 255 = nI (n % 256) := by rw [zq_bp, zq_and255 h]
/-! a memory written in places: the last write stands first -/
def zq_ws (m : Nat → Int32) : List (Nat × Int32) → Nat → Int32
  | [] => m
  | p :: l => upd (zq_ws m l) p.1 p.2
def zq_lk (i : Nat) : List (Nat × Int32) → Option Int32
  | [] => none
  | p :: l => if i = p.1 then some p.2 else zq_lk i l
theorem zq_ws_lk (m : Nat → Int32) (i : Nat) : ∀ l, zq_ws m l i = (zq_lk i l).getD (m i)
  | [] => rfl
  | p :: l => by
    show (if i = p.1 then p.2 else zq_ws m l i) = (if i = p.1 then some p.2 else zq_lk i l).getD (m i)
    by_cases h : i = p.1
    · rw [if_pos h, if_pos h]; rfl
    · rw [if_neg h, if_neg h]; exact zq_ws_lk m i l
theorem zq_ws_app (m : Nat → Int32) (l1 : List (Nat × Int32)) : ∀ l2, zq_ws m (l2 ++ l1) = zq_ws (zq_ws m l1) l2
  | [] => rfl
  | p :: l => by
    show upd (zq_ws m (l ++ l1)) p.1 p.2 = upd (zq_ws (zq_ws m l1) l) p.1 p.2
    rw [zq_ws_app m l1 l]
def zq_rng (a b : Nat) (l : List (Nat × Int32)) : Bool := l.all (fun p => decide (a ≤ p.1) && decide (p.1 < b))
theorem zq_ws_out (m : Nat → Int32) {a b i : Nat} (hi : i < a ∨ b ≤ i) : ∀ l, zq_rng a b l = true → zq_ws m l i = m i
  | [], _ => rfl
  | p :: l, h => by
    have h2 : ((decide (a ≤ p.1) && decide (p.1 < b)) && zq_rng a b l) = true := h
    rw [Bool.and_eq_true, Bool.and_eq_true, decide_eq_true_eq, decide_eq_true_eq] at h2
    show (if i = p.1 then p.2 else zq_ws m l i) = m i
    rw [if_neg (by omega)]
    exact zq_ws_out m hi l h2.2
/-- the bytes bs lie from n on -/
def zq_has (m : Nat → Int32) : Nat → List Nat → Prop
  | _, [] => True
  | n, b :: l => m n &&& 255 = nI b ∧ zq_has m (n + 1) l
def zq_chk (l : List (Nat × Int32)) : Nat → List Nat → Bool
  | _, [] => true
  | n, b :: bs => (match zq_lk n l with | some v => decide (v &&& 255 = nI b) | none => false) && zq_chk l (n + 1) bs
theorem zq_has_ws (m : Nat → Int32) (l : List (Nat × Int32)) : ∀ bs n, zq_chk l n bs = true → zq_has (zq_ws m l) n bs
  | [], _, _ => trivial
  | b :: bs, n, h => by
    have h2 : ((match zq_lk n l with | some v => decide (v &&& 255 = nI b) | none => false) && zq_chk l (n + 1) bs) = true := h
    rw [Bool.and_eq_true] at h2
    refine ⟨?_, zq_has_ws m l bs (n + 1) h2.2⟩
    rw [zq_ws_lk]
    cases e : zq_lk n l with
    | none => rw [e] at h2; exact absurd h2.1 Bool.false_ne_true
    | some v => rw [e] at h2; exact of_decide_eq_true h2.1
theorem zq_has_eq {m m' : Nat → Int32} : ∀ bs n, (∀ i, n ≤ i → i < n + bs.length → m' i = m i) → zq_has m n bs → zq_has m' n bs
  | [], _, _, _ => trivial
  | b :: bs, n, h, g => by
    refine ⟨?_, zq_has_eq bs (n + 1) (fun i h1 h2 => h i (by omega) (by rw [List.length_cons]; omega)) g.2⟩
    rw [h n (Nat.le_refl n) (by rw [List.length_cons]; omega)]
    exact g.1
end
section
/-! the emitting methods of one, two and three bytes -/
section
variable {post : St2 → Prop} {ec lc lv cp ce dp ng mu dv le sm nt sz pl fe so dg pr cn en fi fo nx s0 s1 s2 s3 s4 s5 cy zr ip sp ha sc el pn : Int32} {a1 a2 a3 a4 a5 a6 a7 a8 a9 a10 a11 a12 a13 a14 a15 a16 : Nat → Int32}
theorem zq_put {n : Nat} {b : Int32} (n' : Nat) (v : Int32) (h : b.toInt8.toInt32 = v ∧ n + 1 = n' ∧ n < 2048)
    (hp : post (ec, lc, lv, cp, nI n', dp, ng, mu, dv, le, sm, nt, sz, pl, fe, so, dg, pr, cn, en, fi, fo, nx, s0, s1, s2, s3, s4, s5, cy, zr, ip, sp, ha, sc, el, pn, a1, a2, a3, a4, a5, a6, a7, a8, a9, a10, a11, a12, a13, upd a14 n v, a15, a16)) :
    wpX_put post (ec, lc, lv, cp, nI n, dp, ng, mu, dv, le, sm, nt, sz, pl, fe, so, dg, pr, cn, en, fi, fo, nx, s0, s1, s2, s3, s4, s5, cy, zr, ip, sp, ha, sc, el, pn, a1, a2, a3, a4, a5, a6, a7, a8, a9, a10, a11, a12, a13, a14, a15, a16) b := by
  obtain ⟨hv, hn, hl⟩ := h
  subst hv
  subst hn
  exact ⟨vp_in_nI hl (by decide), nm_r (by rw [nI_clamp (by omega)]) (nm_r (nI_1 n) hp)⟩
theorem zq_put2 {n : Nat} {b c : Int32} (n' : Nat) (v x : Int32) (h : b.toInt8.toInt32 = v ∧ c.toInt8.toInt32 = x ∧ n + 2 = n' ∧ n < 2047)
    (hp : post (ec, lc, lv, cp, nI n', dp, ng, mu, dv, le, sm, nt, sz, pl, fe, so, dg, pr, cn, en, fi, fo, nx, s0, s1, s2, s3, s4, s5, cy, zr, ip, sp, ha, sc, el, pn, a1, a2, a3, a4, a5, a6, a7, a8, a9, a10, a11, a12, a13, upd (upd a14 n v) (n + 1) x, a15, a16)) :
    wpX_put2 post (ec, lc, lv, cp, nI n, dp, ng, mu, dv, le, sm, nt, sz, pl, fe, so, dg, pr, cn, en, fi, fo, nx, s0, s1, s2, s3, s4, s5, cy, zr, ip, sp, ha, sc, el, pn, a1, a2, a3, a4, a5, a6, a7, a8, a9, a10, a11, a12, a13, a14, a15, a16) b c := by
  obtain ⟨hv, hx, hn, hl⟩ := h
  subst hn
  unfold wpX_put2
  refine zq_put (n + 1) v ⟨hv, rfl, by omega⟩ ?_
  refine zq_put (n + 2) x ⟨hx, rfl, by omega⟩ ?_
  exact hp
theorem zq_putW {n : Nat} {b c : Int32} (n' : Nat) (v x y : Int32) (h : b.toInt8.toInt32 = v ∧ (c &&& 255).toInt8.toInt32 = x ∧ ((c >>> ((8 : Int32) &&& 31)) &&& 255).toInt8.toInt32 = y ∧ n + 3 = n' ∧ n < 2046)
    (hp : post (ec, lc, lv, cp, nI n', dp, ng, mu, dv, le, sm, nt, sz, pl, fe, so, dg, pr, cn, en, fi, fo, nx, s0, s1, s2, s3, s4, s5, cy, zr, ip, sp, ha, sc, el, pn, a1, a2, a3, a4, a5, a6, a7, a8, a9, a10, a11, a12, a13, upd (upd (upd a14 n v) (n + 1) x) (n + 2) y, a15, a16)) :
    wpX_putWord post (ec, lc, lv, cp, nI n, dp, ng, mu, dv, le, sm, nt, sz, pl, fe, so, dg, pr, cn, en, fi, fo, nx, s0, s1, s2, s3, s4, s5, cy, zr, ip, sp, ha, sc, el, pn, a1, a2, a3, a4, a5, a6, a7, a8, a9, a10, a11, a12, a13, a14, a15, a16) b c := by
  obtain ⟨hv, hx, hy, hn, hl⟩ := h
  subst hn
  unfold wpX_putWord
  refine zq_put (n + 1) v ⟨hv, rfl, by omega⟩ ?_
  refine zq_put (n + 2) x ⟨hx, rfl, by omega⟩ ?_
  refine zq_put (n + 3) y ⟨hy, rfl, by omega⟩ ?_
  exact hp
theorem zq_o_move {n : Nat} {p0 p1 : Int32} (n' : Nat) (v : Int32) (h : ((64 + (8 * p0)) + p1).toInt8.toInt32 = v ∧ n + 1 = n' ∧ n < 2048)
    (hp : post (ec, lc, lv, cp, nI n', dp, ng, mu, dv, le, sm, nt, sz, pl, fe, so, dg, pr, cn, en, fi, fo, nx, s0, s1, s2, s3, s4, s5, cy, zr, ip, sp, ha, sc, el, pn, a1, a2, a3, a4, a5, a6, a7, a8, a9, a10, a11, a12, a13, upd a14 n v, a15, a16)) :
    wpX_move post (ec, lc, lv, cp, nI n, dp, ng, mu, dv, le, sm, nt, sz, pl, fe, so, dg, pr, cn, en, fi, fo, nx, s0, s1, s2, s3, s4, s5, cy, zr, ip, sp, ha, sc, el, pn, a1, a2, a3, a4, a5, a6, a7, a8, a9, a10, a11, a12, a13, a14, a15, a16) p0 p1 := by
  unfold wpX_move
  refine zq_put n' v h ?_
  exact hp
theorem zq_o_increasePair {n : Nat} {p0 : Int32} (n' : Nat) (v : Int32) (h : (3 + (16 * p0)).toInt8.toInt32 = v ∧ n + 1 = n' ∧ n < 2048)
    (hp : post (ec, lc, lv, cp, nI n', dp, ng, mu, dv, le, sm, nt, sz, pl, fe, so, dg, pr, cn, en, fi, fo, nx, s0, s1, s2, s3, s4, s5, cy, zr, ip, sp, ha, sc, el, pn, a1, a2, a3, a4, a5, a6, a7, a8, a9, a10, a11, a12, a13, upd a14 n v, a15, a16)) :
    wpX_increasePair post (ec, lc, lv, cp, nI n, dp, ng, mu, dv, le, sm, nt, sz, pl, fe, so, dg, pr, cn, en, fi, fo, nx, s0, s1, s2, s3, s4, s5, cy, zr, ip, sp, ha, sc, el, pn, a1, a2, a3, a4, a5, a6, a7, a8, a9, a10, a11, a12, a13, a14, a15, a16) p0 := by
  unfold wpX_increasePair
  refine zq_put n' v h ?_
  exact hp
theorem zq_o_giveBack {n : Nat} (n' : Nat) (v : Int32) (h : (201 : Int32).toInt8.toInt32 = v ∧ n + 1 = n' ∧ n < 2048)
    (hp : post (ec, lc, lv, cp, nI n', dp, ng, mu, dv, le, sm, nt, sz, pl, fe, so, dg, pr, cn, en, fi, fo, nx, s0, s1, s2, s3, s4, s5, cy, zr, ip, sp, ha, sc, el, pn, a1, a2, a3, a4, a5, a6, a7, a8, a9, a10, a11, a12, a13, upd a14 n v, a15, a16)) :
    wpX_giveBack post (ec, lc, lv, cp, nI n, dp, ng, mu, dv, le, sm, nt, sz, pl, fe, so, dg, pr, cn, en, fi, fo, nx, s0, s1, s2, s3, s4, s5, cy, zr, ip, sp, ha, sc, el, pn, a1, a2, a3, a4, a5, a6, a7, a8, a9, a10, a11, a12, a13, a14, a15, a16)  := by
  unfold wpX_giveBack
  refine zq_put n' v h ?_
  exact hp
theorem zq_o_add {n : Nat} {p0 : Int32} (n' : Nat) (v : Int32) (h : (9 + (16 * p0)).toInt8.toInt32 = v ∧ n + 1 = n' ∧ n < 2048)
    (hp : post (ec, lc, lv, cp, nI n', dp, ng, mu, dv, le, sm, nt, sz, pl, fe, so, dg, pr, cn, en, fi, fo, nx, s0, s1, s2, s3, s4, s5, cy, zr, ip, sp, ha, sc, el, pn, a1, a2, a3, a4, a5, a6, a7, a8, a9, a10, a11, a12, a13, upd a14 n v, a15, a16)) :
    wpX_add post (ec, lc, lv, cp, nI n, dp, ng, mu, dv, le, sm, nt, sz, pl, fe, so, dg, pr, cn, en, fi, fo, nx, s0, s1, s2, s3, s4, s5, cy, zr, ip, sp, ha, sc, el, pn, a1, a2, a3, a4, a5, a6, a7, a8, a9, a10, a11, a12, a13, a14, a15, a16) p0 := by
  unfold wpX_add
  refine zq_put n' v h ?_
  exact hp
theorem zq_o_exchange {n : Nat} (n' : Nat) (v : Int32) (h : (235 : Int32).toInt8.toInt32 = v ∧ n + 1 = n' ∧ n < 2048)
    (hp : post (ec, lc, lv, cp, nI n', dp, ng, mu, dv, le, sm, nt, sz, pl, fe, so, dg, pr, cn, en, fi, fo, nx, s0, s1, s2, s3, s4, s5, cy, zr, ip, sp, ha, sc, el, pn, a1, a2, a3, a4, a5, a6, a7, a8, a9, a10, a11, a12, a13, upd a14 n v, a15, a16)) :
    wpX_exchange post (ec, lc, lv, cp, nI n, dp, ng, mu, dv, le, sm, nt, sz, pl, fe, so, dg, pr, cn, en, fi, fo, nx, s0, s1, s2, s3, s4, s5, cy, zr, ip, sp, ha, sc, el, pn, a1, a2, a3, a4, a5, a6, a7, a8, a9, a10, a11, a12, a13, a14, a15, a16)  := by
  unfold wpX_exchange
  refine zq_put n' v h ?_
  exact hp
theorem zq_o_push {n : Nat} {p0 : Int32} (n' : Nat) (v : Int32) (h : (197 + (16 * p0)).toInt8.toInt32 = v ∧ n + 1 = n' ∧ n < 2048)
    (hp : post (ec, lc, lv, cp, nI n', dp, ng, mu, dv, le, sm, nt, sz, pl, fe, so, dg, pr, cn, en, fi, fo, nx, s0, s1, s2, s3, s4, s5, cy, zr, ip, sp, ha, sc, el, pn, a1, a2, a3, a4, a5, a6, a7, a8, a9, a10, a11, a12, a13, upd a14 n v, a15, a16)) :
    wpX_push post (ec, lc, lv, cp, nI n, dp, ng, mu, dv, le, sm, nt, sz, pl, fe, so, dg, pr, cn, en, fi, fo, nx, s0, s1, s2, s3, s4, s5, cy, zr, ip, sp, ha, sc, el, pn, a1, a2, a3, a4, a5, a6, a7, a8, a9, a10, a11, a12, a13, a14, a15, a16) p0 := by
  unfold wpX_push
  refine zq_put n' v h ?_
  exact hp
theorem zq_o_pop {n : Nat} {p0 : Int32} (n' : Nat) (v : Int32) (h : (193 + (16 * p0)).toInt8.toInt32 = v ∧ n + 1 = n' ∧ n < 2048)
    (hp : post (ec, lc, lv, cp, nI n', dp, ng, mu, dv, le, sm, nt, sz, pl, fe, so, dg, pr, cn, en, fi, fo, nx, s0, s1, s2, s3, s4, s5, cy, zr, ip, sp, ha, sc, el, pn, a1, a2, a3, a4, a5, a6, a7, a8, a9, a10, a11, a12, a13, upd a14 n v, a15, a16)) :
    wpX_pop post (ec, lc, lv, cp, nI n, dp, ng, mu, dv, le, sm, nt, sz, pl, fe, so, dg, pr, cn, en, fi, fo, nx, s0, s1, s2, s3, s4, s5, cy, zr, ip, sp, ha, sc, el, pn, a1, a2, a3, a4, a5, a6, a7, a8, a9, a10, a11, a12, a13, a14, a15, a16) p0 := by
  unfold wpX_pop
  refine zq_put n' v h ?_
  exact hp
theorem zq_o_orA {n : Nat} (n' : Nat) (v : Int32) (h : (183 : Int32).toInt8.toInt32 = v ∧ n + 1 = n' ∧ n < 2048)
    (hp : post (ec, lc, lv, cp, nI n', dp, ng, mu, dv, le, sm, nt, sz, pl, fe, so, dg, pr, cn, en, fi, fo, nx, s0, s1, s2, s3, s4, s5, cy, zr, ip, sp, ha, sc, el, pn, a1, a2, a3, a4, a5, a6, a7, a8, a9, a10, a11, a12, a13, upd a14 n v, a15, a16)) :
    wpX_orA post (ec, lc, lv, cp, nI n, dp, ng, mu, dv, le, sm, nt, sz, pl, fe, so, dg, pr, cn, en, fi, fo, nx, s0, s1, s2, s3, s4, s5, cy, zr, ip, sp, ha, sc, el, pn, a1, a2, a3, a4, a5, a6, a7, a8, a9, a10, a11, a12, a13, a14, a15, a16)  := by
  unfold wpX_orA
  refine zq_put n' v h ?_
  exact hp
theorem zq_o_loadByte {n : Nat} {p0 p1 : Int32} (n' : Nat) (v x : Int32) (h : (6 + (8 * p0)).toInt8.toInt32 = v ∧ p1.toInt8.toInt32 = x ∧ n + 2 = n' ∧ n < 2047)
    (hp : post (ec, lc, lv, cp, nI n', dp, ng, mu, dv, le, sm, nt, sz, pl, fe, so, dg, pr, cn, en, fi, fo, nx, s0, s1, s2, s3, s4, s5, cy, zr, ip, sp, ha, sc, el, pn, a1, a2, a3, a4, a5, a6, a7, a8, a9, a10, a11, a12, a13, upd (upd a14 n v) (n + 1) x, a15, a16)) :
    wpX_loadByte post (ec, lc, lv, cp, nI n, dp, ng, mu, dv, le, sm, nt, sz, pl, fe, so, dg, pr, cn, en, fi, fo, nx, s0, s1, s2, s3, s4, s5, cy, zr, ip, sp, ha, sc, el, pn, a1, a2, a3, a4, a5, a6, a7, a8, a9, a10, a11, a12, a13, a14, a15, a16) p0 p1 := by
  unfold wpX_loadByte
  refine zq_put2 n' v x h ?_
  exact hp
theorem zq_o_andByte {n : Nat} {p0 : Int32} (n' : Nat) (v x : Int32) (h : (230 : Int32).toInt8.toInt32 = v ∧ p0.toInt8.toInt32 = x ∧ n + 2 = n' ∧ n < 2047)
    (hp : post (ec, lc, lv, cp, nI n', dp, ng, mu, dv, le, sm, nt, sz, pl, fe, so, dg, pr, cn, en, fi, fo, nx, s0, s1, s2, s3, s4, s5, cy, zr, ip, sp, ha, sc, el, pn, a1, a2, a3, a4, a5, a6, a7, a8, a9, a10, a11, a12, a13, upd (upd a14 n v) (n + 1) x, a15, a16)) :
    wpX_andByte post (ec, lc, lv, cp, nI n, dp, ng, mu, dv, le, sm, nt, sz, pl, fe, so, dg, pr, cn, en, fi, fo, nx, s0, s1, s2, s3, s4, s5, cy, zr, ip, sp, ha, sc, el, pn, a1, a2, a3, a4, a5, a6, a7, a8, a9, a10, a11, a12, a13, a14, a15, a16) p0 := by
  unfold wpX_andByte
  refine zq_put2 n' v x h ?_
  exact hp
theorem zq_o_subtract {n : Nat} {p0 : Int32} (n' : Nat) (v x : Int32) (h : (237 : Int32).toInt8.toInt32 = v ∧ (66 + (16 * p0)).toInt8.toInt32 = x ∧ n + 2 = n' ∧ n < 2047)
    (hp : post (ec, lc, lv, cp, nI n', dp, ng, mu, dv, le, sm, nt, sz, pl, fe, so, dg, pr, cn, en, fi, fo, nx, s0, s1, s2, s3, s4, s5, cy, zr, ip, sp, ha, sc, el, pn, a1, a2, a3, a4, a5, a6, a7, a8, a9, a10, a11, a12, a13, upd (upd a14 n v) (n + 1) x, a15, a16)) :
    wpX_subtract post (ec, lc, lv, cp, nI n, dp, ng, mu, dv, le, sm, nt, sz, pl, fe, so, dg, pr, cn, en, fi, fo, nx, s0, s1, s2, s3, s4, s5, cy, zr, ip, sp, ha, sc, el, pn, a1, a2, a3, a4, a5, a6, a7, a8, a9, a10, a11, a12, a13, a14, a15, a16) p0 := by
  unfold wpX_subtract
  refine zq_put2 n' v x h ?_
  exact hp
theorem zq_o_load {n : Nat} {p0 p1 : Int32} (n' : Nat) (v x y : Int32) (h : (1 + (16 * p0)).toInt8.toInt32 = v ∧ (p1 &&& 255).toInt8.toInt32 = x ∧ ((p1 >>> ((8 : Int32) &&& 31)) &&& 255).toInt8.toInt32 = y ∧ n + 3 = n' ∧ n < 2046)
    (hp : post (ec, lc, lv, cp, nI n', dp, ng, mu, dv, le, sm, nt, sz, pl, fe, so, dg, pr, cn, en, fi, fo, nx, s0, s1, s2, s3, s4, s5, cy, zr, ip, sp, ha, sc, el, pn, a1, a2, a3, a4, a5, a6, a7, a8, a9, a10, a11, a12, a13, upd (upd (upd a14 n v) (n + 1) x) (n + 2) y, a15, a16)) :
    wpX_load post (ec, lc, lv, cp, nI n, dp, ng, mu, dv, le, sm, nt, sz, pl, fe, so, dg, pr, cn, en, fi, fo, nx, s0, s1, s2, s3, s4, s5, cy, zr, ip, sp, ha, sc, el, pn, a1, a2, a3, a4, a5, a6, a7, a8, a9, a10, a11, a12, a13, a14, a15, a16) p0 p1 := by
  unfold wpX_load
  refine zq_putW n' v x y h ?_
  exact hp
theorem zq_o_call {n : Nat} {p0 : Int32} (n' : Nat) (v x y : Int32) (h : (205 : Int32).toInt8.toInt32 = v ∧ (p0 &&& 255).toInt8.toInt32 = x ∧ ((p0 >>> ((8 : Int32) &&& 31)) &&& 255).toInt8.toInt32 = y ∧ n + 3 = n' ∧ n < 2046)
    (hp : post (ec, lc, lv, cp, nI n', dp, ng, mu, dv, le, sm, nt, sz, pl, fe, so, dg, pr, cn, en, fi, fo, nx, s0, s1, s2, s3, s4, s5, cy, zr, ip, sp, ha, sc, el, pn, a1, a2, a3, a4, a5, a6, a7, a8, a9, a10, a11, a12, a13, upd (upd (upd a14 n v) (n + 1) x) (n + 2) y, a15, a16)) :
    wpX_call post (ec, lc, lv, cp, nI n, dp, ng, mu, dv, le, sm, nt, sz, pl, fe, so, dg, pr, cn, en, fi, fo, nx, s0, s1, s2, s3, s4, s5, cy, zr, ip, sp, ha, sc, el, pn, a1, a2, a3, a4, a5, a6, a7, a8, a9, a10, a11, a12, a13, a14, a15, a16) p0 := by
  unfold wpX_call
  refine zq_putW n' v x y h ?_
  exact hp
theorem zq_o_jump {n : Nat} {p0 : Int32} (n' : Nat) (v x y : Int32) (h : (195 : Int32).toInt8.toInt32 = v ∧ (p0 &&& 255).toInt8.toInt32 = x ∧ ((p0 >>> ((8 : Int32) &&& 31)) &&& 255).toInt8.toInt32 = y ∧ n + 3 = n' ∧ n < 2046)
    (hp : post (ec, lc, lv, cp, nI n', dp, ng, mu, dv, le, sm, nt, sz, pl, fe, so, dg, pr, cn, en, fi, fo, nx, s0, s1, s2, s3, s4, s5, cy, zr, ip, sp, ha, sc, el, pn, a1, a2, a3, a4, a5, a6, a7, a8, a9, a10, a11, a12, a13, upd (upd (upd a14 n v) (n + 1) x) (n + 2) y, a15, a16)) :
    wpX_jump post (ec, lc, lv, cp, nI n, dp, ng, mu, dv, le, sm, nt, sz, pl, fe, so, dg, pr, cn, en, fi, fo, nx, s0, s1, s2, s3, s4, s5, cy, zr, ip, sp, ha, sc, el, pn, a1, a2, a3, a4, a5, a6, a7, a8, a9, a10, a11, a12, a13, a14, a15, a16) p0 := by
  unfold wpX_jump
  refine zq_putW n' v x y h ?_
  exact hp
theorem zq_o_jumpZero {n : Nat} {p0 : Int32} (n' : Nat) (v x y : Int32) (h : (202 : Int32).toInt8.toInt32 = v ∧ (p0 &&& 255).toInt8.toInt32 = x ∧ ((p0 >>> ((8 : Int32) &&& 31)) &&& 255).toInt8.toInt32 = y ∧ n + 3 = n' ∧ n < 2046)
    (hp : post (ec, lc, lv, cp, nI n', dp, ng, mu, dv, le, sm, nt, sz, pl, fe, so, dg, pr, cn, en, fi, fo, nx, s0, s1, s2, s3, s4, s5, cy, zr, ip, sp, ha, sc, el, pn, a1, a2, a3, a4, a5, a6, a7, a8, a9, a10, a11, a12, a13, upd (upd (upd a14 n v) (n + 1) x) (n + 2) y, a15, a16)) :
    wpX_jumpZero post (ec, lc, lv, cp, nI n, dp, ng, mu, dv, le, sm, nt, sz, pl, fe, so, dg, pr, cn, en, fi, fo, nx, s0, s1, s2, s3, s4, s5, cy, zr, ip, sp, ha, sc, el, pn, a1, a2, a3, a4, a5, a6, a7, a8, a9, a10, a11, a12, a13, a14, a15, a16) p0 := by
  unfold wpX_jumpZero
  refine zq_putW n' v x y h ?_
  exact hp
theorem zq_o_jumpNot {n : Nat} {p0 : Int32} (n' : Nat) (v x y : Int32) (h : (194 : Int32).toInt8.toInt32 = v ∧ (p0 &&& 255).toInt8.toInt32 = x ∧ ((p0 >>> ((8 : Int32) &&& 31)) &&& 255).toInt8.toInt32 = y ∧ n + 3 = n' ∧ n < 2046)
    (hp : post (ec, lc, lv, cp, nI n', dp, ng, mu, dv, le, sm, nt, sz, pl, fe, so, dg, pr, cn, en, fi, fo, nx, s0, s1, s2, s3, s4, s5, cy, zr, ip, sp, ha, sc, el, pn, a1, a2, a3, a4, a5, a6, a7, a8, a9, a10, a11, a12, a13, upd (upd (upd a14 n v) (n + 1) x) (n + 2) y, a15, a16)) :
    wpX_jumpNot post (ec, lc, lv, cp, nI n, dp, ng, mu, dv, le, sm, nt, sz, pl, fe, so, dg, pr, cn, en, fi, fo, nx, s0, s1, s2, s3, s4, s5, cy, zr, ip, sp, ha, sc, el, pn, a1, a2, a3, a4, a5, a6, a7, a8, a9, a10, a11, a12, a13, a14, a15, a16) p0 := by
  unfold wpX_jumpNot
  refine zq_putW n' v x y h ?_
  exact hp
theorem zq_o_loadHL {n : Nat} {p0 : Int32} (n' : Nat) (v x y : Int32) (h : (42 : Int32).toInt8.toInt32 = v ∧ (p0 &&& 255).toInt8.toInt32 = x ∧ ((p0 >>> ((8 : Int32) &&& 31)) &&& 255).toInt8.toInt32 = y ∧ n + 3 = n' ∧ n < 2046)
    (hp : post (ec, lc, lv, cp, nI n', dp, ng, mu, dv, le, sm, nt, sz, pl, fe, so, dg, pr, cn, en, fi, fo, nx, s0, s1, s2, s3, s4, s5, cy, zr, ip, sp, ha, sc, el, pn, a1, a2, a3, a4, a5, a6, a7, a8, a9, a10, a11, a12, a13, upd (upd (upd a14 n v) (n + 1) x) (n + 2) y, a15, a16)) :
    wpX_loadHL post (ec, lc, lv, cp, nI n, dp, ng, mu, dv, le, sm, nt, sz, pl, fe, so, dg, pr, cn, en, fi, fo, nx, s0, s1, s2, s3, s4, s5, cy, zr, ip, sp, ha, sc, el, pn, a1, a2, a3, a4, a5, a6, a7, a8, a9, a10, a11, a12, a13, a14, a15, a16) p0 := by
  unfold wpX_loadHL
  refine zq_putW n' v x y h ?_
  exact hp
theorem zq_o_saveHL {n : Nat} {p0 : Int32} (n' : Nat) (v x y : Int32) (h : (34 : Int32).toInt8.toInt32 = v ∧ (p0 &&& 255).toInt8.toInt32 = x ∧ ((p0 >>> ((8 : Int32) &&& 31)) &&& 255).toInt8.toInt32 = y ∧ n + 3 = n' ∧ n < 2046)
    (hp : post (ec, lc, lv, cp, nI n', dp, ng, mu, dv, le, sm, nt, sz, pl, fe, so, dg, pr, cn, en, fi, fo, nx, s0, s1, s2, s3, s4, s5, cy, zr, ip, sp, ha, sc, el, pn, a1, a2, a3, a4, a5, a6, a7, a8, a9, a10, a11, a12, a13, upd (upd (upd a14 n v) (n + 1) x) (n + 2) y, a15, a16)) :
    wpX_saveHL post (ec, lc, lv, cp, nI n, dp, ng, mu, dv, le, sm, nt, sz, pl, fe, so, dg, pr, cn, en, fi, fo, nx, s0, s1, s2, s3, s4, s5, cy, zr, ip, sp, ha, sc, el, pn, a1, a2, a3, a4, a5, a6, a7, a8, a9, a10, a11, a12, a13, a14, a15, a16) p0 := by
  unfold wpX_saveHL
  refine zq_putW n' v x y h ?_
  exact hp
theorem zq_o_loadA {n : Nat} {p0 : Int32} (n' : Nat) (v x y : Int32) (h : (58 : Int32).toInt8.toInt32 = v ∧ (p0 &&& 255).toInt8.toInt32 = x ∧ ((p0 >>> ((8 : Int32) &&& 31)) &&& 255).toInt8.toInt32 = y ∧ n + 3 = n' ∧ n < 2046)
    (hp : post (ec, lc, lv, cp, nI n', dp, ng, mu, dv, le, sm, nt, sz, pl, fe, so, dg, pr, cn, en, fi, fo, nx, s0, s1, s2, s3, s4, s5, cy, zr, ip, sp, ha, sc, el, pn, a1, a2, a3, a4, a5, a6, a7, a8, a9, a10, a11, a12, a13, upd (upd (upd a14 n v) (n + 1) x) (n + 2) y, a15, a16)) :
    wpX_loadA post (ec, lc, lv, cp, nI n, dp, ng, mu, dv, le, sm, nt, sz, pl, fe, so, dg, pr, cn, en, fi, fo, nx, s0, s1, s2, s3, s4, s5, cy, zr, ip, sp, ha, sc, el, pn, a1, a2, a3, a4, a5, a6, a7, a8, a9, a10, a11, a12, a13, a14, a15, a16) p0 := by
  unfold wpX_loadA
  refine zq_putW n' v x y h ?_
  exact hp
theorem zq_o_saveA {n : Nat} {p0 : Int32} (n' : Nat) (v x y : Int32) (h : (50 : Int32).toInt8.toInt32 = v ∧ (p0 &&& 255).toInt8.toInt32 = x ∧ ((p0 >>> ((8 : Int32) &&& 31)) &&& 255).toInt8.toInt32 = y ∧ n + 3 = n' ∧ n < 2046)
    (hp : post (ec, lc, lv, cp, nI n', dp, ng, mu, dv, le, sm, nt, sz, pl, fe, so, dg, pr, cn, en, fi, fo, nx, s0, s1, s2, s3, s4, s5, cy, zr, ip, sp, ha, sc, el, pn, a1, a2, a3, a4, a5, a6, a7, a8, a9, a10, a11, a12, a13, upd (upd (upd a14 n v) (n + 1) x) (n + 2) y, a15, a16)) :
    wpX_saveA post (ec, lc, lv, cp, nI n, dp, ng, mu, dv, le, sm, nt, sz, pl, fe, so, dg, pr, cn, en, fi, fo, nx, s0, s1, s2, s3, s4, s5, cy, zr, ip, sp, ha, sc, el, pn, a1, a2, a3, a4, a5, a6, a7, a8, a9, a10, a11, a12, a13, a14, a15, a16) p0 := by
  unfold wpX_saveA
  refine zq_putW n' v x y h ?_
  exact hp
theorem zq_fwd {pst : Int32 → St2 → Prop} {n : Nat} {b : Int32} (n' : Nat) (v : Int32) (h : b.toInt8.toInt32 = v ∧ n + 3 = n' ∧ n < 2046)
    (hp : pst (nI n' - 2) (ec, lc, lv, cp, nI n', dp, ng, mu, dv, le, sm, nt, sz, pl, fe, so, dg, pr, cn, en, fi, fo, nx, s0, s1, s2, s3, s4, s5, cy, zr, ip, sp, ha, sc, el, pn, a1, a2, a3, a4, a5, a6, a7, a8, a9, a10, a11, a12, a13, upd (upd (upd a14 n v) (n + 1) 0) (n + 2) 0, a15, a16)) :
    wpX_forward pst (ec, lc, lv, cp, nI n, dp, ng, mu, dv, le, sm, nt, sz, pl, fe, so, dg, pr, cn, en, fi, fo, nx, s0, s1, s2, s3, s4, s5, cy, zr, ip, sp, ha, sc, el, pn, a1, a2, a3, a4, a5, a6, a7, a8, a9, a10, a11, a12, a13, a14, a15, a16) b := by
  obtain ⟨hv, hn, hl⟩ := h
  unfold wpX_forward
  refine zq_putW n' v 0 0 ⟨hv, by decide, by decide, hn, hl⟩ ?_
  exact hp
theorem zq_land {n : Nat} {b : Int32} (p : Nat) (v x : Int32) (h : b = nI p ∧ p < 2047 ∧ (nI n).toInt8.toInt32 = v ∧ (nI n >>> ((8 : Int32) &&& 31)).toInt8.toInt32 = x)
    (hp : post (ec, lc, lv, cp, nI n, dp, ng, mu, dv, le, sm, nt, sz, pl, fe, so, dg, pr, cn, en, fi, fo, nx, s0, s1, s2, s3, s4, s5, cy, zr, ip, sp, ha, sc, el, pn, a1, a2, a3, a4, a5, a6, a7, a8, a9, a10, a11, a12, a13, upd (upd a14 p v) (p + 1) x, a15, a16)) :
    wpX_land post (ec, lc, lv, cp, nI n, dp, ng, mu, dv, le, sm, nt, sz, pl, fe, so, dg, pr, cn, en, fi, fo, nx, s0, s1, s2, s3, s4, s5, cy, zr, ip, sp, ha, sc, el, pn, a1, a2, a3, a4, a5, a6, a7, a8, a9, a10, a11, a12, a13, a14, a15, a16) b := by
  obtain ⟨hb, hl, hv, hx⟩ := h
  subst hb
  subst hv
  subst hx
  have e1 : nI p &&& 2047 = nI p := zq_and2047 (by omega)
  have e2 : (nI p + 1) &&& 2047 = nI (p + 1) := by rw [nI_1, zq_and2047 (by omega)]
  unfold wpX_land wpX_setWord
  refine ⟨by rw [e1]; exact vp_in_nI (by omega) (by decide), nm_r (by rw [e1, nI_clamp (by omega)]) ?_⟩
  refine ⟨by rw [e2]; exact vp_in_nI (by omega) (by decide), nm_r (by rw [e2, nI_clamp (by omega)]) ?_⟩
  exact hp
theorem zq_stop {pst : Int32 → St2 → Prop} {n : Nat} {b : Int32} (n' : Nat) (v : Int32) (h : b.toInt8.toInt32 = v ∧ n + 3 = n' ∧ n < 2045)
    (hp : pst (nI n) (ec, lc, lv, cp, nI n', dp, ng, mu, dv, le, sm, nt, sz, pl, fe, so, dg, pr, cn, en, fi, fo, nx, s0, s1, s2, s3, s4, s5, cy, zr, ip, sp, ha, sc, el, pn, a1, a2, a3, a4, a5, a6, a7, a8, a9, a10, a11, a12, a13, upd (upd (upd a14 n 62) (n + 1) v) (n + 2) 118, a15, a16)) :
    wpX_writeStop pst (ec, lc, lv, cp, nI n, dp, ng, mu, dv, le, sm, nt, sz, pl, fe, so, dg, pr, cn, en, fi, fo, nx, s0, s1, s2, s3, s4, s5, cy, zr, ip, sp, ha, sc, el, pn, a1, a2, a3, a4, a5, a6, a7, a8, a9, a10, a11, a12, a13, a14, a15, a16) b := by
  obtain ⟨hv, hn, hl⟩ := h
  subst hn
  unfold wpX_writeStop
  refine zq_o_loadByte (n + 2) 62 v ⟨by decide, hv, rfl, by omega⟩ ?_
  refine zq_put (n + 3) 118 ⟨by decide, rfl, by omega⟩ ?_
  exact hp
end
end
section
/-! the writers of the runtime, each at its place -/
section
variable {post : St2 → Prop} {ec lc lv cp ce dp ng mu dv le sm nt sz pl fe so dg pr cn en fi fo nx s0 s1 s2 s3 s4 s5 cy zr ip sp ha sc el pn : Int32} {a1 a2 a3 a4 a5 a6 a7 a8 a9 a10 a11 a12 a13 a14 a15 a16 : Nat → Int32}
def zq_lStops : List (Nat × Int32) := [(97, 118), (96, 6), (95, 62), (94, 118), (93, 5), (92, 62), (91, 118), (90, 4), (89, 62), (88, 118), (87, 3), (86, 62), (85, 118), (84, 1), (83, 62), (82, 118), (81, 2), (80, 62)]
def zq_lNegate : List (Nat × Int32) := [(105, -55), (104, 35), (103, 111), (102, 47), (101, 125), (100, 103), (99, 47), (98, 124)]
set_option maxHeartbeats 2000000 in
theorem zq_wNegate
    (hp : post (ec, lc, lv, cp, nI 106, dp, nI 98, mu, dv, le, sm, nt, sz, pl, fe, so, dg, pr, cn, en, fi, fo, nx, s0, s1, s2, s3, s4, s5, cy, zr, ip, sp, ha, sc, el, pn, a1, a2, a3, a4, a5, a6, a7, a8, a9, a10, a11, a12, a13, zq_ws a14 zq_lNegate, a15, a16)) :
    wpX_writeNegate post (ec, lc, lv, cp, nI 98, dp, ng, mu, dv, le, sm, nt, sz, pl, fe, so, dg, pr, cn, en, fi, fo, nx, s0, s1, s2, s3, s4, s5, cy, zr, ip, sp, ha, sc, el, pn, a1, a2, a3, a4, a5, a6, a7, a8, a9, a10, a11, a12, a13, a14, a15, a16) := by
  unfold wpX_writeNegate
  refine zq_o_move 99 124 (by decide +kernel) ?_
  refine zq_put 100 47 (by decide +kernel) ?_
  refine zq_o_move 101 103 (by decide +kernel) ?_
  refine zq_o_move 102 125 (by decide +kernel) ?_
  refine zq_put 103 47 (by decide +kernel) ?_
  refine zq_o_move 104 111 (by decide +kernel) ?_
  refine zq_o_increasePair 105 35 (by decide +kernel) ?_
  refine zq_o_giveBack 106 (-55) (by decide +kernel) ?_
  exact hp
def zq_lMultiply : List (Nat × Int32) := [(125, -55), (124, 0), (123, 113), (122, -62), (121, 61), (119, 0), (118, 121), (120, 9), (119, 0), (118, 0), (117, -46), (116, -21), (115, 41), (114, -21), (113, 41), (112, 16), (111, 62), (110, 0), (109, 0), (108, 33), (107, 77), (106, 68)]
set_option maxHeartbeats 2000000 in
theorem zq_wMultiply
    (hp : post (ec, lc, lv, cp, nI 126, dp, ng, nI 106, dv, le, sm, nt, sz, pl, fe, so, dg, pr, cn, en, fi, fo, nx, s0, s1, s2, s3, s4, s5, cy, zr, ip, sp, ha, sc, el, pn, a1, a2, a3, a4, a5, a6, a7, a8, a9, a10, a11, a12, a13, zq_ws a14 zq_lMultiply, a15, a16)) :
    wpX_writeMultiply post (ec, lc, lv, cp, nI 106, dp, ng, mu, dv, le, sm, nt, sz, pl, fe, so, dg, pr, cn, en, fi, fo, nx, s0, s1, s2, s3, s4, s5, cy, zr, ip, sp, ha, sc, el, pn, a1, a2, a3, a4, a5, a6, a7, a8, a9, a10, a11, a12, a13, a14, a15, a16) := by
  unfold wpX_writeMultiply
  refine zq_o_move 107 68 (by decide +kernel) ?_
  refine zq_o_move 108 77 (by decide +kernel) ?_
  refine zq_o_load 111 33 0 0 (by decide +kernel) ?_
  refine zq_o_loadByte 113 62 16 (by decide +kernel) ?_
  refine zq_o_add 114 41 (by decide +kernel) ?_
  refine zq_o_exchange 115 (-21) (by decide +kernel) ?_
  refine zq_o_add 116 41 (by decide +kernel) ?_
  refine zq_o_exchange 117 (-21) (by decide +kernel) ?_
  refine zq_fwd 120 (-46) (by decide +kernel) ?_
  refine zq_o_add 121 9 (by decide +kernel) ?_
  refine zq_land 118 121 0 (by decide +kernel) ?_
  refine zq_put 122 61 (by decide +kernel) ?_
  refine zq_o_jumpNot 125 (-62) 113 0 (by decide +kernel) ?_
  refine zq_o_giveBack 126 (-55) (by decide +kernel) ?_
  exact hp
def zq_lDivide : List (Nat × Int32) := [(200, -55), (199, -21), (198, 0), (197, 98), (196, -51), (195, -21), (194, -56), (193, -128), (192, -26), (191, -15), (187, 0), (186, -65), (190, 0), (189, 98), (188, -51), (187, 0), (186, 0), (185, -54), (184, -128), (183, -26), (182, -15), (181, 0), (180, -94), (179, -62), (178, 61), (176, 0), (175, -78), (177, 28), (172, 0), (171, -79), (176, 0), (175, 0), (174, -61), (173, 9), (172, 0), (171, 0), (170, -46), (169, 66), (168, -19), (167, -73), (166, 106), (165, -19), (164, -21), (163, 41), (162, -21), (161, 16), (160, 62), (159, 0), (158, 0), (157, 33), (156, 77), (155, 68), (151, 0), (150, -101), (154, 0), (153, 98), (152, -51), (151, 0), (150, 0), (149, -54), (148, -128), (147, -26), (146, 124), (140, 0), (139, -110), (145, -21), (144, 0), (143, 98), (142, -51), (141, -21), (140, 0), (139, 0), (138, -54), (137, -128), (136, -26), (135, -11), (134, 122), (133, -11), (132, -84), (131, 122), (130, 0), (129, 80), (128, -54), (127, -75), (126, 124)]
set_option maxHeartbeats 2000000 in
theorem zq_wDivide
    (hp : post (ec, lc, lv, cp, nI 201, dp, nI 98, mu, nI 126, le, sm, nt, sz, pl, fe, so, dg, pr, cn, en, fi, fo, nx, nI 80, s1, s2, s3, s4, s5, cy, zr, ip, sp, ha, sc, el, pn, a1, a2, a3, a4, a5, a6, a7, a8, a9, a10, a11, a12, a13, zq_ws a14 zq_lDivide, a15, a16)) :
    wpX_writeDivide post (ec, lc, lv, cp, nI 126, dp, nI 98, mu, dv, le, sm, nt, sz, pl, fe, so, dg, pr, cn, en, fi, fo, nx, nI 80, s1, s2, s3, s4, s5, cy, zr, ip, sp, ha, sc, el, pn, a1, a2, a3, a4, a5, a6, a7, a8, a9, a10, a11, a12, a13, a14, a15, a16) := by
  unfold wpX_writeDivide
  refine zq_o_move 127 124 (by decide +kernel) ?_
  refine zq_put 128 (-75) (by decide +kernel) ?_
  refine zq_o_jumpZero 131 (-54) 80 0 (by decide +kernel) ?_
  refine zq_o_move 132 122 (by decide +kernel) ?_
  refine zq_put 133 (-84) (by decide +kernel) ?_
  refine zq_o_push 134 (-11) (by decide +kernel) ?_
  refine zq_o_move 135 122 (by decide +kernel) ?_
  refine zq_o_push 136 (-11) (by decide +kernel) ?_
  refine zq_o_andByte 138 (-26) (-128) (by decide +kernel) ?_
  refine zq_fwd 141 (-54) (by decide +kernel) ?_
  refine zq_o_exchange 142 (-21) (by decide +kernel) ?_
  refine zq_o_call 145 (-51) 98 0 (by decide +kernel) ?_
  refine zq_o_exchange 146 (-21) (by decide +kernel) ?_
  refine zq_land 139 (-110) 0 (by decide +kernel) ?_
  refine zq_o_move 147 124 (by decide +kernel) ?_
  refine zq_o_andByte 149 (-26) (-128) (by decide +kernel) ?_
  refine zq_fwd 152 (-54) (by decide +kernel) ?_
  refine zq_o_call 155 (-51) 98 0 (by decide +kernel) ?_
  refine zq_land 150 (-101) 0 (by decide +kernel) ?_
  refine zq_o_move 156 68 (by decide +kernel) ?_
  refine zq_o_move 157 77 (by decide +kernel) ?_
  refine zq_o_load 160 33 0 0 (by decide +kernel) ?_
  unfold wpX_writeDivideLoop
  refine zq_o_loadByte 162 62 16 (by decide +kernel) ?_
  refine zq_o_exchange 163 (-21) (by decide +kernel) ?_
  refine zq_o_add 164 41 (by decide +kernel) ?_
  refine zq_o_exchange 165 (-21) (by decide +kernel) ?_
  refine zq_put2 167 (-19) 106 (by decide +kernel) ?_
  refine zq_o_orA 168 (-73) (by decide +kernel) ?_
  refine zq_o_subtract 170 (-19) 66 (by decide +kernel) ?_
  refine zq_fwd 173 (-46) (by decide +kernel) ?_
  refine zq_o_add 174 9 (by decide +kernel) ?_
  refine zq_fwd 177 (-61) (by decide +kernel) ?_
  refine zq_land 171 (-79) 0 (by decide +kernel) ?_
  refine zq_put 178 28 (by decide +kernel) ?_
  refine zq_land 175 (-78) 0 (by decide +kernel) ?_
  refine zq_put 179 61 (by decide +kernel) ?_
  refine zq_o_jumpNot 182 (-62) (-94) 0 (by decide +kernel) ?_
  refine zq_o_pop 183 (-15) (by decide +kernel) ?_
  refine zq_o_andByte 185 (-26) (-128) (by decide +kernel) ?_
  refine zq_fwd 188 (-54) (by decide +kernel) ?_
  refine zq_o_call 191 (-51) 98 0 (by decide +kernel) ?_
  refine zq_land 186 (-65) 0 (by decide +kernel) ?_
  refine zq_o_pop 192 (-15) (by decide +kernel) ?_
  refine zq_o_andByte 194 (-26) (-128) (by decide +kernel) ?_
  refine zq_put 195 (-56) (by decide +kernel) ?_
  refine zq_o_exchange 196 (-21) (by decide +kernel) ?_
  refine zq_o_call 199 (-51) 98 0 (by decide +kernel) ?_
  refine zq_o_exchange 200 (-21) (by decide +kernel) ?_
  refine zq_o_giveBack 201 (-55) (by decide +kernel) ?_
  exact hp
def zq_lComparisons : List (Nat × Int32) := [(242, 0), (241, 98), (240, -61), (239, -56), (238, -128), (237, -26), (236, 124), (235, -55), (234, 35), (233, -64), (232, 0), (231, 0), (230, 33), (229, -75), (228, 124), (227, -55), (226, 35), (225, -64), (224, 0), (223, 0), (222, 33), (221, 82), (220, -19), (219, -73), (218, -55), (217, 35), (216, -48), (215, 0), (214, 0), (213, 33), (212, 82), (211, -19), (210, -73), (209, -21), (208, 103), (207, -128), (206, -18), (205, 124), (204, 87), (203, -128), (202, -18), (201, 122)]
set_option maxHeartbeats 2000000 in
theorem zq_wComparisons
    (hp : post (ec, lc, lv, cp, nI 243, dp, nI 98, mu, dv, nI 201, nI 219, nI 228, nI 236, pl, fe, so, dg, pr, cn, en, fi, fo, nx, s0, s1, s2, s3, s4, s5, cy, zr, ip, sp, ha, sc, el, pn, a1, a2, a3, a4, a5, a6, a7, a8, a9, a10, a11, a12, a13, zq_ws a14 zq_lComparisons, a15, a16)) :
    wpX_writeComparisons post (ec, lc, lv, cp, nI 201, dp, nI 98, mu, dv, le, sm, nt, sz, pl, fe, so, dg, pr, cn, en, fi, fo, nx, s0, s1, s2, s3, s4, s5, cy, zr, ip, sp, ha, sc, el, pn, a1, a2, a3, a4, a5, a6, a7, a8, a9, a10, a11, a12, a13, a14, a15, a16) := by
  unfold wpX_writeComparisons
  refine zq_o_move 202 122 (by decide +kernel) ?_
  refine zq_put2 204 (-18) (-128) (by decide +kernel) ?_
  refine zq_o_move 205 87 (by decide +kernel) ?_
  refine zq_o_move 206 124 (by decide +kernel) ?_
  refine zq_put2 208 (-18) (-128) (by decide +kernel) ?_
  refine zq_o_move 209 103 (by decide +kernel) ?_
  refine zq_o_exchange 210 (-21) (by decide +kernel) ?_
  refine zq_o_orA 211 (-73) (by decide +kernel) ?_
  refine zq_o_subtract 213 (-19) 82 (by decide +kernel) ?_
  refine zq_o_load 216 33 0 0 (by decide +kernel) ?_
  refine zq_put 217 (-48) (by decide +kernel) ?_
  refine zq_o_increasePair 218 35 (by decide +kernel) ?_
  refine zq_o_giveBack 219 (-55) (by decide +kernel) ?_
  refine zq_o_orA 220 (-73) (by decide +kernel) ?_
  refine zq_o_subtract 222 (-19) 82 (by decide +kernel) ?_
  refine zq_o_load 225 33 0 0 (by decide +kernel) ?_
  refine zq_put 226 (-64) (by decide +kernel) ?_
  refine zq_o_increasePair 227 35 (by decide +kernel) ?_
  refine zq_o_giveBack 228 (-55) (by decide +kernel) ?_
  refine zq_o_move 229 124 (by decide +kernel) ?_
  refine zq_put 230 (-75) (by decide +kernel) ?_
  refine zq_o_load 233 33 0 0 (by decide +kernel) ?_
  refine zq_put 234 (-64) (by decide +kernel) ?_
  refine zq_o_increasePair 235 35 (by decide +kernel) ?_
  refine zq_o_giveBack 236 (-55) (by decide +kernel) ?_
  refine zq_o_move 237 124 (by decide +kernel) ?_
  refine zq_o_andByte 239 (-26) (-128) (by decide +kernel) ?_
  refine zq_put 240 (-56) (by decide +kernel) ?_
  refine zq_o_jump 243 (-61) 98 0 (by decide +kernel) ?_
  exact hp
def zq_lElements : List (Nat × Int32) := [(272, -55), (271, 114), (270, 35), (269, 115), (268, -47), (267, 0), (266, -13), (265, -51), (264, -21), (263, -27), (262, -55), (261, -21), (260, 86), (259, 35), (258, 94), (257, 0), (256, -13), (255, -51), (254, -55), (253, 25), (252, 0), (251, 16), (250, 17), (249, 0), (248, 38), (247, 111), (246, -121), (245, 15), (244, -26), (243, 125)]
set_option maxHeartbeats 2000000 in
theorem zq_wElements
    (hp : post (ec, lc, lv, cp, nI 273, dp, ng, mu, dv, le, sm, nt, sz, nI 243, nI 255, nI 263, dg, pr, cn, en, fi, fo, nx, s0, s1, s2, s3, s4, s5, cy, zr, ip, sp, ha, sc, el, pn, a1, a2, a3, a4, a5, a6, a7, a8, a9, a10, a11, a12, a13, zq_ws a14 zq_lElements, a15, a16)) :
    wpX_writeElements post (ec, lc, lv, cp, nI 243, dp, ng, mu, dv, le, sm, nt, sz, pl, fe, so, dg, pr, cn, en, fi, fo, nx, s0, s1, s2, s3, s4, s5, cy, zr, ip, sp, ha, sc, el, pn, a1, a2, a3, a4, a5, a6, a7, a8, a9, a10, a11, a12, a13, a14, a15, a16) := by
  unfold wpX_writeElements
  refine zq_o_move 244 125 (by decide +kernel) ?_
  refine zq_o_andByte 246 (-26) 15 (by decide +kernel) ?_
  refine zq_put 247 (-121) (by decide +kernel) ?_
  refine zq_o_move 248 111 (by decide +kernel) ?_
  refine zq_o_loadByte 250 38 0 (by decide +kernel) ?_
  refine zq_o_load 253 17 16 0 (by decide +kernel) ?_
  refine zq_o_add 254 25 (by decide +kernel) ?_
  refine zq_o_giveBack 255 (-55) (by decide +kernel) ?_
  refine zq_o_call 258 (-51) (-13) 0 (by decide +kernel) ?_
  refine zq_o_move 259 94 (by decide +kernel) ?_
  refine zq_o_increasePair 260 35 (by decide +kernel) ?_
  refine zq_o_move 261 86 (by decide +kernel) ?_
  refine zq_o_exchange 262 (-21) (by decide +kernel) ?_
  refine zq_o_giveBack 263 (-55) (by decide +kernel) ?_
  refine zq_o_push 264 (-27) (by decide +kernel) ?_
  refine zq_o_exchange 265 (-21) (by decide +kernel) ?_
  refine zq_o_call 268 (-51) (-13) 0 (by decide +kernel) ?_
  refine zq_o_pop 269 (-47) (by decide +kernel) ?_
  refine zq_o_move 270 115 (by decide +kernel) ?_
  refine zq_o_increasePair 271 35 (by decide +kernel) ?_
  refine zq_o_move 272 114 (by decide +kernel) ?_
  refine zq_o_giveBack 273 (-55) (by decide +kernel) ?_
  exact hp
def zq_lPrint : List (Nat × Int32) := [(349, -55), (348, 1), (347, -45), (346, 10), (345, 62), (344, 1), (343, -45), (342, 48), (341, -58), (340, 125), (339, 1), (338, 17), (337, -51), (336, 0), (335, 10), (334, 17), (333, 1), (332, 17), (331, -51), (330, 0), (329, 100), (328, 17), (327, 1), (326, 17), (325, -51), (324, 3), (323, -24), (322, 17), (321, 1), (320, 17), (319, -51), (318, 39), (317, 16), (316, 17), (315, 0), (314, 6), (306, 1), (305, 58), (313, 0), (312, 98), (311, -51), (310, 1), (309, -45), (308, 45), (307, 62), (306, 0), (305, 0), (304, -54), (303, -128), (302, -26), (301, 124), (300, -55), (299, 1), (298, -45), (297, 121), (296, 1), (295, 6), (291, 1), (290, 39), (294, -56), (293, -73), (292, 120), (291, 0), (290, 0), (289, -62), (288, 48), (287, -2), (286, 121), (285, 25), (280, 1), (279, 29), (284, 1), (283, 19), (282, -61), (281, 12), (280, 0), (279, 0), (278, -38), (277, 82), (276, -19), (275, -73), (274, 48), (273, 14)]
set_option maxHeartbeats 2000000 in
theorem zq_wPrint
    (hp : post (ec, lc, lv, cp, nI 350, dp, nI 98, mu, dv, le, sm, nt, sz, pl, fe, so, nI 273, nI 301, cn, en, fi, fo, nx, s0, s1, s2, s3, s4, s5, cy, zr, ip, sp, ha, sc, el, pn, a1, a2, a3, a4, a5, a6, a7, a8, a9, a10, a11, a12, a13, zq_ws a14 zq_lPrint, a15, a16)) :
    wpX_writePrint post (ec, lc, lv, cp, nI 273, dp, nI 98, mu, dv, le, sm, nt, sz, pl, fe, so, dg, pr, cn, en, fi, fo, nx, s0, s1, s2, s3, s4, s5, cy, zr, ip, sp, ha, sc, el, pn, a1, a2, a3, a4, a5, a6, a7, a8, a9, a10, a11, a12, a13, a14, a15, a16) := by
  unfold wpX_writePrint
  refine zq_o_loadByte 275 14 48 (by decide +kernel) ?_
  refine zq_o_orA 276 (-73) (by decide +kernel) ?_
  refine zq_o_subtract 278 (-19) 82 (by decide +kernel) ?_
  refine zq_fwd 281 (-38) (by decide +kernel) ?_
  refine zq_put 282 12 (by decide +kernel) ?_
  refine zq_o_jump 285 (-61) 19 1 (by decide +kernel) ?_
  refine zq_land 279 29 1 (by decide +kernel) ?_
  refine zq_o_add 286 25 (by decide +kernel) ?_
  refine zq_o_move 287 121 (by decide +kernel) ?_
  refine zq_put2 289 (-2) 48 (by decide +kernel) ?_
  refine zq_fwd 292 (-62) (by decide +kernel) ?_
  refine zq_o_move 293 120 (by decide +kernel) ?_
  refine zq_o_orA 294 (-73) (by decide +kernel) ?_
  refine zq_put 295 (-56) (by decide +kernel) ?_
  refine zq_land 290 39 1 (by decide +kernel) ?_
  refine zq_o_loadByte 297 6 1 (by decide +kernel) ?_
  refine zq_o_move 298 121 (by decide +kernel) ?_
  refine zq_put2 300 (-45) 1 (by decide +kernel) ?_
  refine zq_o_giveBack 301 (-55) (by decide +kernel) ?_
  refine zq_o_move 302 124 (by decide +kernel) ?_
  refine zq_o_andByte 304 (-26) (-128) (by decide +kernel) ?_
  refine zq_fwd 307 (-54) (by decide +kernel) ?_
  refine zq_o_loadByte 309 62 45 (by decide +kernel) ?_
  refine zq_put2 311 (-45) 1 (by decide +kernel) ?_
  refine zq_o_call 314 (-51) 98 0 (by decide +kernel) ?_
  refine zq_land 305 58 1 (by decide +kernel) ?_
  refine zq_o_loadByte 316 6 0 (by decide +kernel) ?_
  refine ⟨5, ?_⟩
  refine br_f (by decide +kernel) ?_
  refine zq_o_load 319 17 16 39 (by decide +kernel) ?_
  refine zq_o_call 322 (-51) 17 1 (by decide +kernel) ?_
  refine ⟨by decide, nm_r (e' := 1000) (by decide +kernel) ?_⟩
  refine br_f (by decide +kernel) ?_
  refine zq_o_load 325 17 (-24) 3 (by decide +kernel) ?_
  refine zq_o_call 328 (-51) 17 1 (by decide +kernel) ?_
  refine ⟨by decide, nm_r (e' := 100) (by decide +kernel) ?_⟩
  refine br_f (by decide +kernel) ?_
  refine zq_o_load 331 17 100 0 (by decide +kernel) ?_
  refine zq_o_call 334 (-51) 17 1 (by decide +kernel) ?_
  refine ⟨by decide, nm_r (e' := 10) (by decide +kernel) ?_⟩
  refine br_f (by decide +kernel) ?_
  refine zq_o_load 337 17 10 0 (by decide +kernel) ?_
  refine zq_o_call 340 (-51) 17 1 (by decide +kernel) ?_
  refine ⟨by decide, nm_r (e' := 1) (by decide +kernel) ?_⟩
  refine br_t (by decide +kernel) ?_
  refine zq_o_move 341 125 (by decide +kernel) ?_
  refine zq_put2 343 (-58) 48 (by decide +kernel) ?_
  refine zq_put2 345 (-45) 1 (by decide +kernel) ?_
  refine zq_o_loadByte 347 62 10 (by decide +kernel) ?_
  refine zq_put2 349 (-45) 1 (by decide +kernel) ?_
  refine zq_o_giveBack 350 (-55) (by decide +kernel) ?_
  exact hp
def zq_lCount : List (Nat × Int32) := [(372, -55), (371, 0), (370, 48), (369, 34), (368, 35), (367, 0), (366, 48), (365, 42), (364, 0), (363, 83), (362, -54), (361, 82), (360, -19), (359, -73), (358, 0), (357, -56), (356, 17), (355, 0), (354, 48), (353, 42), (352, 0), (351, 50), (350, 50)]
set_option maxHeartbeats 2000000 in
theorem zq_wCount
    (hp : post (ec, lc, lv, cp, nI 373, dp, ng, mu, dv, le, sm, nt, sz, pl, fe, so, dg, pr, nI 350, en, fi, fo, nx, s0, nI 83, s2, s3, s4, s5, cy, zr, ip, sp, ha, sc, el, pn, a1, a2, a3, a4, a5, a6, a7, a8, a9, a10, a11, a12, a13, zq_ws a14 zq_lCount, a15, a16)) :
    wpX_writeCount post (ec, lc, lv, cp, nI 350, dp, ng, mu, dv, le, sm, nt, sz, pl, fe, so, dg, pr, cn, en, fi, fo, nx, s0, nI 83, s2, s3, s4, s5, cy, zr, ip, sp, ha, sc, el, pn, a1, a2, a3, a4, a5, a6, a7, a8, a9, a10, a11, a12, a13, a14, a15, a16) := by
  unfold wpX_writeCount
  refine zq_o_saveA 353 50 50 0 (by decide +kernel) ?_
  refine zq_o_loadHL 356 42 48 0 (by decide +kernel) ?_
  refine zq_o_load 359 17 (-56) 0 (by decide +kernel) ?_
  refine zq_o_orA 360 (-73) (by decide +kernel) ?_
  refine zq_o_subtract 362 (-19) 82 (by decide +kernel) ?_
  refine zq_o_jumpZero 365 (-54) 83 0 (by decide +kernel) ?_
  refine zq_o_loadHL 368 42 48 0 (by decide +kernel) ?_
  refine zq_o_increasePair 369 35 (by decide +kernel) ?_
  refine zq_o_saveHL 372 34 48 0 (by decide +kernel) ?_
  refine zq_o_giveBack 373 (-55) (by decide +kernel) ?_
  exact hp
def zq_lEntries : List (Nat × Int32) := [(408, -55), (407, -73), (406, 120), (401, 1), (400, -106), (405, 1), (404, -121), (403, -61), (402, 5), (401, 0), (400, 0), (399, -54), (398, -71), (397, 126), (396, 1), (395, 117), (394, -51), (393, -56), (392, -73), (391, 120), (390, 71), (389, 0), (388, 52), (387, 58), (386, -55), (385, 25), (384, 0), (383, 53), (382, 33), (381, 0), (380, 22), (379, 95), (378, -125), (377, -121), (376, -121), (375, 95), (374, 61), (373, 120)]
set_option maxHeartbeats 2000000 in
theorem zq_wEntries
    (hp : post (ec, lc, lv, cp, nI 409, dp, ng, mu, dv, le, sm, nt, sz, pl, fe, so, dg, pr, cn, nI 373, nI 387, fo, nx, s0, s1, s2, s3, s4, s5, cy, zr, ip, sp, ha, sc, el, pn, a1, a2, a3, a4, a5, a6, a7, a8, a9, a10, a11, a12, a13, zq_ws a14 zq_lEntries, a15, a16)) :
    wpX_writeEntries post (ec, lc, lv, cp, nI 373, dp, ng, mu, dv, le, sm, nt, sz, pl, fe, so, dg, pr, cn, en, fi, fo, nx, s0, s1, s2, s3, s4, s5, cy, zr, ip, sp, ha, sc, el, pn, a1, a2, a3, a4, a5, a6, a7, a8, a9, a10, a11, a12, a13, a14, a15, a16) := by
  unfold wpX_writeEntries
  refine zq_o_move 374 120 (by decide +kernel) ?_
  refine zq_put 375 61 (by decide +kernel) ?_
  refine zq_o_move 376 95 (by decide +kernel) ?_
  refine zq_put 377 (-121) (by decide +kernel) ?_
  refine zq_put 378 (-121) (by decide +kernel) ?_
  refine zq_put 379 (-125) (by decide +kernel) ?_
  refine zq_o_move 380 95 (by decide +kernel) ?_
  refine zq_o_loadByte 382 22 0 (by decide +kernel) ?_
  refine zq_o_load 385 33 53 0 (by decide +kernel) ?_
  refine zq_o_add 386 25 (by decide +kernel) ?_
  refine zq_o_giveBack 387 (-55) (by decide +kernel) ?_
  refine zq_o_loadA 390 58 52 0 (by decide +kernel) ?_
  refine zq_o_move 391 71 (by decide +kernel) ?_
  refine zq_o_move 392 120 (by decide +kernel) ?_
  refine zq_o_orA 393 (-73) (by decide +kernel) ?_
  refine zq_put 394 (-56) (by decide +kernel) ?_
  refine zq_o_call 397 (-51) 117 1 (by decide +kernel) ?_
  refine zq_o_move 398 126 (by decide +kernel) ?_
  refine zq_put 399 (-71) (by decide +kernel) ?_
  refine zq_fwd 402 (-54) (by decide +kernel) ?_
  refine zq_put 403 5 (by decide +kernel) ?_
  refine zq_o_jump 406 (-61) (-121) 1 (by decide +kernel) ?_
  refine zq_land 400 (-106) 1 (by decide +kernel) ?_
  refine zq_o_move 407 120 (by decide +kernel) ?_
  refine zq_o_orA 408 (-73) (by decide +kernel) ?_
  refine zq_o_giveBack 409 (-55) (by decide +kernel) ?_
  exact hp
def zq_lFor : List (Nat × Int32) := [(448, -55), (447, 114), (446, 35), (445, 115), (444, 35), (443, 112), (442, 35), (441, 113), (440, -63), (439, -47), (438, 35), (437, 113), (436, 1), (435, 117), (434, -51), (433, 71), (432, 0), (431, 52), (430, 50), (429, 60), (428, 0), (427, 92), (426, -54), (425, 4), (424, -2), (423, 0), (422, 52), (421, 58), (416, 1), (415, -91), (420, 0), (419, 52), (418, 50), (417, 61), (416, 0), (415, 0), (414, -54), (413, 1), (412, -125), (411, -51), (410, -43), (409, -27)]
set_option maxHeartbeats 2000000 in
theorem zq_wFor
    (hp : post (ec, lc, lv, cp, nI 449, dp, ng, mu, dv, le, sm, nt, sz, pl, fe, so, dg, pr, cn, nI 373, nI 387, nI 409, nx, s0, s1, s2, s3, nI 92, s5, cy, zr, ip, sp, ha, sc, el, pn, a1, a2, a3, a4, a5, a6, a7, a8, a9, a10, a11, a12, a13, zq_ws a14 zq_lFor, a15, a16)) :
    wpX_writeFor post (ec, lc, lv, cp, nI 409, dp, ng, mu, dv, le, sm, nt, sz, pl, fe, so, dg, pr, cn, nI 373, nI 387, fo, nx, s0, s1, s2, s3, nI 92, s5, cy, zr, ip, sp, ha, sc, el, pn, a1, a2, a3, a4, a5, a6, a7, a8, a9, a10, a11, a12, a13, a14, a15, a16) := by
  unfold wpX_writeFor
  refine zq_o_push 410 (-27) (by decide +kernel) ?_
  refine zq_o_push 411 (-43) (by decide +kernel) ?_
  refine zq_o_call 414 (-51) (-125) 1 (by decide +kernel) ?_
  refine zq_fwd 417 (-54) (by decide +kernel) ?_
  refine zq_put 418 61 (by decide +kernel) ?_
  refine zq_o_saveA 421 50 52 0 (by decide +kernel) ?_
  refine zq_land 415 (-91) 1 (by decide +kernel) ?_
  refine zq_o_loadA 424 58 52 0 (by decide +kernel) ?_
  refine zq_put2 426 (-2) 4 (by decide +kernel) ?_
  refine zq_o_jumpZero 429 (-54) 92 0 (by decide +kernel) ?_
  refine zq_put 430 60 (by decide +kernel) ?_
  refine zq_o_saveA 433 50 52 0 (by decide +kernel) ?_
  refine zq_o_move 434 71 (by decide +kernel) ?_
  refine zq_o_call 437 (-51) 117 1 (by decide +kernel) ?_
  refine zq_o_move 438 113 (by decide +kernel) ?_
  refine zq_o_increasePair 439 35 (by decide +kernel) ?_
  refine zq_o_pop 440 (-47) (by decide +kernel) ?_
  refine zq_o_pop 441 (-63) (by decide +kernel) ?_
  refine zq_o_move 442 113 (by decide +kernel) ?_
  refine zq_o_increasePair 443 35 (by decide +kernel) ?_
  refine zq_o_move 444 112 (by decide +kernel) ?_
  refine zq_o_increasePair 445 35 (by decide +kernel) ?_
  refine zq_o_move 446 115 (by decide +kernel) ?_
  refine zq_o_increasePair 447 35 (by decide +kernel) ?_
  refine zq_o_move 448 114 (by decide +kernel) ?_
  refine zq_o_giveBack 449 (-55) (by decide +kernel) ?_
  exact hp
def zq_lNext : List (Nat × Int32) := [(502, -55), (501, 0), (500, 52), (499, 50), (498, 61), (497, 0), (496, 52), (495, 58), (488, 1), (487, -17), (494, -23), (493, -21), (492, -31), (491, 86), (490, 35), (489, 94), (488, 0), (487, 0), (486, -62), (485, -73), (484, -31), (483, 125), (482, 0), (481, -55), (480, -51), (479, 89), (478, 80), (477, 107), (476, 98), (475, -27), (474, 35), (473, 70), (472, 35), (471, 78), (470, 35), (469, -31), (468, 115), (467, 43), (466, 114), (465, 19), (464, 86), (463, 35), (462, 94), (461, -21), (460, -27), (459, -47), (458, 0), (457, 52), (456, 50), (455, 0), (454, 95), (453, -54), (452, 1), (451, -125), (450, -51), (449, -43)]
set_option maxHeartbeats 2000000 in
theorem zq_wNext
    (hp : post (ec, lc, lv, cp, nI 503, dp, ng, mu, dv, nI 201, sm, nt, sz, pl, fe, so, dg, pr, cn, en, nI 387, fo, nI 449, s0, s1, s2, s3, s4, nI 95, cy, zr, ip, sp, ha, sc, el, pn, a1, a2, a3, a4, a5, a6, a7, a8, a9, a10, a11, a12, a13, zq_ws a14 zq_lNext, a15, a16)) :
    wpX_writeNext post (ec, lc, lv, cp, nI 449, dp, ng, mu, dv, nI 201, sm, nt, sz, pl, fe, so, dg, pr, cn, en, nI 387, fo, nx, s0, s1, s2, s3, s4, nI 95, cy, zr, ip, sp, ha, sc, el, pn, a1, a2, a3, a4, a5, a6, a7, a8, a9, a10, a11, a12, a13, a14, a15, a16) := by
  unfold wpX_writeNext
  refine zq_o_push 450 (-43) (by decide +kernel) ?_
  refine zq_o_call 453 (-51) (-125) 1 (by decide +kernel) ?_
  refine zq_o_jumpZero 456 (-54) 95 0 (by decide +kernel) ?_
  refine zq_o_saveA 459 50 52 0 (by decide +kernel) ?_
  refine zq_o_pop 460 (-47) (by decide +kernel) ?_
  refine zq_o_push 461 (-27) (by decide +kernel) ?_
  refine zq_o_exchange 462 (-21) (by decide +kernel) ?_
  refine zq_o_move 463 94 (by decide +kernel) ?_
  refine zq_o_increasePair 464 35 (by decide +kernel) ?_
  refine zq_o_move 465 86 (by decide +kernel) ?_
  refine zq_o_increasePair 466 19 (by decide +kernel) ?_
  refine zq_o_move 467 114 (by decide +kernel) ?_
  refine zq_put 468 43 (by decide +kernel) ?_
  refine zq_o_move 469 115 (by decide +kernel) ?_
  refine zq_o_pop 470 (-31) (by decide +kernel) ?_
  refine zq_o_increasePair 471 35 (by decide +kernel) ?_
  refine zq_o_move 472 78 (by decide +kernel) ?_
  refine zq_o_increasePair 473 35 (by decide +kernel) ?_
  refine zq_o_move 474 70 (by decide +kernel) ?_
  refine zq_o_increasePair 475 35 (by decide +kernel) ?_
  refine zq_o_push 476 (-27) (by decide +kernel) ?_
  refine zq_o_move 477 98 (by decide +kernel) ?_
  refine zq_o_move 478 107 (by decide +kernel) ?_
  refine zq_o_move 479 80 (by decide +kernel) ?_
  refine zq_o_move 480 89 (by decide +kernel) ?_
  refine zq_o_call 483 (-51) (-55) 0 (by decide +kernel) ?_
  refine zq_o_move 484 125 (by decide +kernel) ?_
  refine zq_o_pop 485 (-31) (by decide +kernel) ?_
  refine zq_o_orA 486 (-73) (by decide +kernel) ?_
  refine zq_fwd 489 (-62) (by decide +kernel) ?_
  refine zq_o_move 490 94 (by decide +kernel) ?_
  refine zq_o_increasePair 491 35 (by decide +kernel) ?_
  refine zq_o_move 492 86 (by decide +kernel) ?_
  refine zq_o_pop 493 (-31) (by decide +kernel) ?_
  refine zq_o_exchange 494 (-21) (by decide +kernel) ?_
  refine zq_put 495 (-23) (by decide +kernel) ?_
  refine zq_land 487 (-17) 1 (by decide +kernel) ?_
  refine zq_o_loadA 498 58 52 0 (by decide +kernel) ?_
  refine zq_put 499 61 (by decide +kernel) ?_
  refine zq_o_saveA 502 50 52 0 (by decide +kernel) ?_
  refine zq_o_giveBack 503 (-55) (by decide +kernel) ?_
  exact hp
end
end
section
def zq_bNeg : List Nat := [124, 47, 103, 125, 47, 111, 35, 201]
def zq_bDig : List Nat := [14, 48, 183, 237, 82, 218, 29, 1, 12, 195, 19, 1, 25, 121, 254, 48, 194, 39, 1, 120, 183, 200, 6, 1, 121, 211, 1, 201]
def zq_bPrn : List Nat := [124, 230, 128, 202, 58, 1, 62, 45, 211, 1, 205, 98, 0, 6, 0, 17, 16, 39, 205, 17, 1, 17, 232, 3, 205, 17, 1, 17, 100, 0, 205, 17, 1, 17, 10, 0, 205, 17, 1, 125, 198, 48, 211, 1, 62, 10, 211, 1, 201]
def zq_bCnt : List Nat := [50, 50, 0, 42, 48, 0, 17, 200, 0, 183, 237, 82, 202, 83, 0, 42, 48, 0, 35, 34, 48, 0, 201]
/-- the runtime's routines that a run takes lie at their places -/
def zq_C (m : Nat → Int32) : Prop := zq_has m 98 zq_bNeg ∧ zq_has m 273 zq_bDig ∧ zq_has m 301 zq_bPrn ∧ zq_has m 350 zq_bCnt
theorem zq_C_eq {m m' : Nat → Int32} (h : ∀ i, 80 ≤ i → i < 503 → m' i = m i) (g : zq_C m) : zq_C m' :=
  ⟨zq_has_eq _ _ (fun i h1 h2 => h i (by omega) (Nat.lt_of_lt_of_le h2 (by decide))) g.1, zq_has_eq _ _ (fun i h1 h2 => h i (by omega) (Nat.lt_of_lt_of_le h2 (by decide))) g.2.1, zq_has_eq _ _ (fun i h1 h2 => h i (by omega) (Nat.lt_of_lt_of_le h2 (by decide))) g.2.2.1, zq_has_eq _ _ (fun i h1 h2 => h i (by omega) (Nat.lt_of_lt_of_le h2 (by decide))) g.2.2.2⟩
def zq_lAll : List (Nat × Int32) := zq_lNext ++ (zq_lFor ++ (zq_lEntries ++ (zq_lCount ++ (zq_lPrint ++ (zq_lElements ++ (zq_lComparisons ++ (zq_lDivide ++ (zq_lMultiply ++ (zq_lNegate ++ (zq_lStops))))))))))
theorem zq_all (m : Nat → Int32) : zq_ws (zq_ws (zq_ws (zq_ws (zq_ws (zq_ws (zq_ws (zq_ws (zq_ws (zq_ws (zq_ws m zq_lStops) zq_lNegate) zq_lMultiply) zq_lDivide) zq_lComparisons) zq_lElements) zq_lPrint) zq_lCount) zq_lEntries) zq_lFor) zq_lNext = zq_ws m zq_lAll := by
  unfold zq_lAll
  rw [zq_ws_app, zq_ws_app, zq_ws_app, zq_ws_app, zq_ws_app, zq_ws_app, zq_ws_app, zq_ws_app, zq_ws_app, zq_ws_app]
theorem zq_allC (m : Nat → Int32) : zq_C (zq_ws m zq_lAll) := ⟨zq_has_ws _ _ _ _ (by decide +kernel), zq_has_ws _ _ _ _ (by decide +kernel), zq_has_ws _ _ _ _ (by decide +kernel), zq_has_ws _ _ _ _ (by decide +kernel)⟩
theorem zq_allO (m : Nat → Int32) {i : Nat} (h : i < 80 ∨ 503 ≤ i) : zq_ws m zq_lAll i = m i := zq_ws_out m h _ (by decide +kernel)
section
variable {post : St2 → Prop} {ec lc lv cp ce dp ng mu dv le sm nt sz pl fe so dg pr cn en fi fo nx s0 s1 s2 s3 s4 s5 cy zr ip sp ha sc el pn : Int32} {a1 a2 a3 a4 a5 a6 a7 a8 a9 a10 a11 a12 a13 a14 a15 a16 : Nat → Int32}
set_option maxHeartbeats 2000000 in
theorem zq_rt
    (hp : ∀ m, zq_C m → (∀ i, (i < 80 ∨ 503 ≤ i) → m i = a14 i) → post (ec, lc, lv, cp, nI 503, dp, nI 98, nI 106, nI 126, nI 201, nI 219, nI 228, nI 236, nI 243, nI 255, nI 263, nI 273, nI 301, nI 350, nI 373, nI 387, nI 409, nI 449, nI 80, nI 83, nI 86, nI 89, nI 92, nI 95, cy, zr, ip, sp, ha, sc, el, pn, a1, a2, a3, a4, a5, a6, a7, a8, a9, a10, a11, a12, a13, m, a15, a16)) :
    wpX_writeRuntime post (ec, lc, lv, cp, nI 80, dp, ng, mu, dv, le, sm, nt, sz, pl, fe, so, dg, pr, cn, en, fi, fo, nx, s0, s1, s2, s3, s4, s5, cy, zr, ip, sp, ha, sc, el, pn, a1, a2, a3, a4, a5, a6, a7, a8, a9, a10, a11, a12, a13, a14, a15, a16) := by
  have hq := hp (zq_ws a14 zq_lAll) (zq_allC a14) (fun i h => zq_allO a14 h)
  rw [← zq_all] at hq
  unfold wpX_writeRuntime
  refine zq_stop 83 2 (by decide +kernel) ?_
  refine zq_stop 86 1 (by decide +kernel) ?_
  refine zq_stop 89 3 (by decide +kernel) ?_
  refine zq_stop 92 4 (by decide +kernel) ?_
  refine zq_stop 95 5 (by decide +kernel) ?_
  refine zq_stop 98 6 (by decide +kernel) ?_
  refine zq_wNegate ?_
  refine zq_wMultiply ?_
  refine zq_wDivide ?_
  refine zq_wComparisons ?_
  refine zq_wElements ?_
  refine zq_wPrint ?_
  refine zq_wCount ?_
  refine zq_wEntries ?_
  refine zq_wFor ?_
  refine zq_wNext ?_
  exact hq
end
end
section
/-! the machine's memory and registers -/
def zq_f : Bool → Int32
  | true => 1
  | false => 0
def zq_g (b c de hl a : Nat) : Nat → Int32 := fun i => nI (if i = 0 then b else if i = 1 then c else if i = 2 then de / 256 else if i = 3 then de % 256 else if i = 4 then hl / 256 else if i = 5 then hl % 256 else if i = 7 then a else 0)
def zq_tx (l : List Nat) : Nat → Int32 := fun i => nI (l.getD i 0)
def zq_st2 (m : Nat → Int32) (i v : Nat) : Nat → Int32 := upd (upd m i (nI v).toInt8.toInt32) (i + 1) (nI (v / 256)).toInt8.toInt32
theorem zq_st2_lo (m : Nat → Int32) (i : Nat) {v : Nat} (h : v < 65536) : zq_st2 m i v i &&& 255 = nI (v % 256) := by
  unfold zq_st2
  rw [pk_un (by omega), pk_us, zq_sb (by omega)]
theorem zq_st2_hi (m : Nat → Int32) (i : Nat) {v : Nat} (h : v < 65536) : zq_st2 m i v (i + 1) &&& 255 = nI (v / 256) := by
  unfold zq_st2
  rw [pk_us, zq_sb (by omega), Nat.mod_eq_of_lt (by omega)]
theorem zq_st2_ne (m : Nat → Int32) {i j : Nat} (v : Nat) (h : j ≠ i) (g : j ≠ i + 1) : zq_st2 m i v j = m j := by
  unfold zq_st2
  rw [pk_un g, pk_un h]
theorem zq_tx_add (l : List Nat) (c : Nat) : upd (zq_tx l) l.length (nI c) = zq_tx (l ++ [c]) := by
  funext i
  show (if i = l.length then nI c else nI (l.getD i 0)) = nI ((l ++ [c]).getD i 0)
  rw [List.getD_eq_getElem?_getD, List.getD_eq_getElem?_getD]
  by_cases h : i = l.length
  · rw [if_pos h, h, List.getElem?_concat_length]; rfl
  · rw [if_neg h]
    rcases Nat.lt_or_ge i l.length with g | g
    · rw [List.getElem?_append_left g]
    · rw [List.getElem?_eq_none g, List.getElem?_eq_none (by rw [List.length_append]; simp only [List.length_cons, List.length_nil]; omega)]
theorem zq_c7 : ∀ c, c < 128 → (nI c).toInt8.toInt32 = nI c := by decide +kernel
theorem zq_gB (b c de hl a x : Nat) : upd (zq_g b c de hl a) 0 (nI x) = zq_g x c de hl a := by
  funext i
  show (if i = 0 then nI x else zq_g b c de hl a i) = zq_g x c de hl a i
  by_cases h : i = 0
  · subst h; rfl
  · rw [if_neg h]; unfold zq_g; rw [if_neg h, if_neg h]
theorem zq_gC (b c de hl a x : Nat) : upd (zq_g b c de hl a) 1 (nI x) = zq_g b x de hl a := by
  funext i
  show (if i = 1 then nI x else zq_g b c de hl a i) = zq_g b x de hl a i
  by_cases h : i = 1
  · subst h; rfl
  · rw [if_neg h]; unfold zq_g; rw [if_neg h, if_neg h]
theorem zq_gA (b c de hl a x : Nat) : upd (zq_g b c de hl a) 7 (nI x) = zq_g b c de hl x := by
  funext i
  show (if i = 7 then nI x else zq_g b c de hl a i) = zq_g b c de hl x i
  by_cases h : i = 7
  · subst h; rfl
  · rw [if_neg h]; unfold zq_g; rw [if_neg h, if_neg h]
theorem zq_gH (b c de hl a x : Nat) (hx : x < 256) : upd (zq_g b c de hl a) 4 (nI x) = zq_g b c de (x * 256 + hl % 256) a := by
  funext i
  show (if i = 4 then nI x else zq_g b c de hl a i) = zq_g b c de (x * 256 + hl % 256) a i
  by_cases h : i = 4
  · subst h; exact congrArg nI (show x = (x * 256 + hl % 256) / 256 by omega)
  · rw [if_neg h]; unfold zq_g; rw [if_neg h, if_neg h, show (x * 256 + hl % 256) % 256 = hl % 256 by omega]
theorem zq_gL (b c de hl a x : Nat) (hx : x < 256) : upd (zq_g b c de hl a) 5 (nI x) = zq_g b c de (hl / 256 * 256 + x) a := by
  funext i
  show (if i = 5 then nI x else zq_g b c de hl a i) = zq_g b c de (hl / 256 * 256 + x) a i
  by_cases h : i = 5
  · subst h; exact congrArg nI (show x = (hl / 256 * 256 + x) % 256 by omega)
  · rw [if_neg h]; unfold zq_g; rw [if_neg h, if_neg h, show (hl / 256 * 256 + x) / 256 = hl / 256 by omega]
theorem zq_gHL (b c de hl a x : Nat) : upd (upd (zq_g b c de hl a) 4 (nI (x / 256))) 5 (nI (x % 256)) = zq_g b c de x a := by
  funext i
  show (if i = 5 then nI (x % 256) else if i = 4 then nI (x / 256) else zq_g b c de hl a i) = zq_g b c de x a i
  by_cases h : i = 5
  · subst h; rfl
  · rw [if_neg h]
    by_cases g : i = 4
    · subst g; rfl
    · rw [if_neg g]; unfold zq_g; rw [if_neg g, if_neg h, if_neg g, if_neg h]
theorem zq_gDE (b c de hl a x : Nat) : upd (upd (zq_g b c de hl a) 2 (nI (x / 256))) 3 (nI (x % 256)) = zq_g b c x hl a := by
  funext i
  show (if i = 3 then nI (x % 256) else if i = 2 then nI (x / 256) else zq_g b c de hl a i) = zq_g b c x hl a i
  by_cases h : i = 3
  · subst h; rfl
  · rw [if_neg h]
    by_cases g : i = 2
    · subst g; rfl
    · rw [if_neg g]; unfold zq_g; rw [if_neg g, if_neg h, if_neg g, if_neg h]
section
variable {post : St2 → Prop} {pst : Int32 → St2 → Prop} {ps : Int32 → Prop} {ec lc lv cp ce dp ng mu dv le sm nt sz pl fe so dg pr cn en fi fo nx s0 s1 s2 s3 s4 s5 cy zr ip sp ha sc el pn : Int32} {a1 a2 a3 a4 a5 a6 a7 a8 a9 a10 a11 a12 a13 a14 a15 a16 : Nat → Int32}
theorem zq_byteAt (i : Nat) {x : Int32} (hx : x = nI i) (hi : i < 2048) (hp : ps (a14 i &&& 255)) : wpX_byteAt ps (ec, lc, lv, cp, ce, dp, ng, mu, dv, le, sm, nt, sz, pl, fe, so, dg, pr, cn, en, fi, fo, nx, s0, s1, s2, s3, s4, s5, cy, zr, ip, sp, ha, sc, el, pn, a1, a2, a3, a4, a5, a6, a7, a8, a9, a10, a11, a12, a13, a14, a15, a16) x := by
  subst hx
  have e := zq_and2047 hi
  refine ⟨by rw [e]; exact vp_in_nI hi (by decide), ?_⟩
  rw [e, nI_clamp (by omega)]
  exact hp
theorem zq_wordAt (i lo hi : Nat) {x : Int32} (hx : x = nI i) (h1 : a14 i &&& 255 = nI lo) (h2 : a14 (i + 1) &&& 255 = nI hi) (g1 : lo < 256) (g2 : hi < 256) (hi' : i < 2047) (hp : ps (nI (lo + 256 * hi))) : wpX_wordAt ps (ec, lc, lv, cp, ce, dp, ng, mu, dv, le, sm, nt, sz, pl, fe, so, dg, pr, cn, en, fi, fo, nx, s0, s1, s2, s3, s4, s5, cy, zr, ip, sp, ha, sc, el, pn, a1, a2, a3, a4, a5, a6, a7, a8, a9, a10, a11, a12, a13, a14, a15, a16) x := by
  subst hx
  unfold wpX_wordAt
  refine zq_byteAt i rfl (by omega) ?_
  refine zq_byteAt (i + 1) (nI_1 i) (by omega) ?_
  show ps ((a14 i &&& 255) ||| ((a14 (i + 1) &&& 255) <<< ((8 : Int32) &&& 31)))
  rw [h1, h2, zq_word g1 g2]
  exact hp
theorem zq_next (i : Nat) {b : Int32} (hb : a14 i &&& 255 = b) (hi : i < 2048) (hp : pst b (ec, lc, lv, cp, ce, dp, ng, mu, dv, le, sm, nt, sz, pl, fe, so, dg, pr, cn, en, fi, fo, nx, s0, s1, s2, s3, s4, s5, cy, zr, nI (i + 1), sp, ha, sc, el, pn, a1, a2, a3, a4, a5, a6, a7, a8, a9, a10, a11, a12, a13, a14, a15, a16)) : wpX_next pst (ec, lc, lv, cp, ce, dp, ng, mu, dv, le, sm, nt, sz, pl, fe, so, dg, pr, cn, en, fi, fo, nx, s0, s1, s2, s3, s4, s5, cy, zr, nI i, sp, ha, sc, el, pn, a1, a2, a3, a4, a5, a6, a7, a8, a9, a10, a11, a12, a13, a14, a15, a16) := by
  subst hb
  unfold wpX_next
  refine zq_byteAt i rfl hi ?_
  exact nm_r (nI_1 i) hp
theorem zq_nextWord (i lo hi : Nat) (h1 : a14 i &&& 255 = nI lo) (h2 : a14 (i + 1) &&& 255 = nI hi) (g1 : lo < 256) (g2 : hi < 256) (hi' : i < 2047) (hp : pst (nI (lo + 256 * hi)) (ec, lc, lv, cp, ce, dp, ng, mu, dv, le, sm, nt, sz, pl, fe, so, dg, pr, cn, en, fi, fo, nx, s0, s1, s2, s3, s4, s5, cy, zr, nI (i + 2), sp, ha, sc, el, pn, a1, a2, a3, a4, a5, a6, a7, a8, a9, a10, a11, a12, a13, a14, a15, a16)) : wpX_nextWord pst (ec, lc, lv, cp, ce, dp, ng, mu, dv, le, sm, nt, sz, pl, fe, so, dg, pr, cn, en, fi, fo, nx, s0, s1, s2, s3, s4, s5, cy, zr, nI i, sp, ha, sc, el, pn, a1, a2, a3, a4, a5, a6, a7, a8, a9, a10, a11, a12, a13, a14, a15, a16) := by
  unfold wpX_nextWord
  refine zq_wordAt i lo hi rfl h1 h2 g1 g2 hi' ?_
  exact nm_r (nI_add i 2) hp
theorem zq_popWord (s lo hi : Nat) (h1 : a14 s &&& 255 = nI lo) (h2 : a14 (s + 1) &&& 255 = nI hi) (g1 : lo < 256) (g2 : hi < 256) (hi' : s < 2047) (hp : pst (nI (lo + 256 * hi)) (ec, lc, lv, cp, ce, dp, ng, mu, dv, le, sm, nt, sz, pl, fe, so, dg, pr, cn, en, fi, fo, nx, s0, s1, s2, s3, s4, s5, cy, zr, ip, nI (s + 2), ha, sc, el, pn, a1, a2, a3, a4, a5, a6, a7, a8, a9, a10, a11, a12, a13, a14, a15, a16)) : wpX_popWord pst (ec, lc, lv, cp, ce, dp, ng, mu, dv, le, sm, nt, sz, pl, fe, so, dg, pr, cn, en, fi, fo, nx, s0, s1, s2, s3, s4, s5, cy, zr, ip, nI s, ha, sc, el, pn, a1, a2, a3, a4, a5, a6, a7, a8, a9, a10, a11, a12, a13, a14, a15, a16) := by
  unfold wpX_popWord
  refine zq_wordAt s lo hi rfl h1 h2 g1 g2 hi' ?_
  exact nm_r (nI_add s 2) hp
theorem zq_setByte (i : Nat) {x v : Int32} (hx : x = nI i) (hi : i < 2048) (hp : post (ec, lc, lv, cp, ce, dp, ng, mu, dv, le, sm, nt, sz, pl, fe, so, dg, pr, cn, en, fi, fo, nx, s0, s1, s2, s3, s4, s5, cy, zr, ip, sp, ha, sc, el, pn, a1, a2, a3, a4, a5, a6, a7, a8, a9, a10, a11, a12, a13, upd a14 i v.toInt8.toInt32, a15, a16)) : wpX_setByte post (ec, lc, lv, cp, ce, dp, ng, mu, dv, le, sm, nt, sz, pl, fe, so, dg, pr, cn, en, fi, fo, nx, s0, s1, s2, s3, s4, s5, cy, zr, ip, sp, ha, sc, el, pn, a1, a2, a3, a4, a5, a6, a7, a8, a9, a10, a11, a12, a13, a14, a15, a16) x v := by
  subst hx
  have e := zq_and2047 hi
  exact ⟨by rw [e]; exact vp_in_nI hi (by decide), nm_r (by rw [e, nI_clamp (by omega)]) hp⟩
theorem zq_setWord (i v : Nat) {x y : Int32} (hx : x = nI i) (hy : y = nI v) (hi : i < 2047) (hv : v < 65536) (hp : post (ec, lc, lv, cp, ce, dp, ng, mu, dv, le, sm, nt, sz, pl, fe, so, dg, pr, cn, en, fi, fo, nx, s0, s1, s2, s3, s4, s5, cy, zr, ip, sp, ha, sc, el, pn, a1, a2, a3, a4, a5, a6, a7, a8, a9, a10, a11, a12, a13, zq_st2 a14 i v, a15, a16)) : wpX_setWord post (ec, lc, lv, cp, ce, dp, ng, mu, dv, le, sm, nt, sz, pl, fe, so, dg, pr, cn, en, fi, fo, nx, s0, s1, s2, s3, s4, s5, cy, zr, ip, sp, ha, sc, el, pn, a1, a2, a3, a4, a5, a6, a7, a8, a9, a10, a11, a12, a13, a14, a15, a16) x y := by
  subst hx
  subst hy
  unfold wpX_setWord
  refine zq_setByte i rfl (by omega) ?_
  refine zq_setByte (i + 1) (nI_1 i) (by omega) ?_
  rw [zq_shr8 (by omega)]
  exact hp
theorem zq_pushWord (s v : Nat) {y : Int32} (hy : y = nI v) (hs : s < 2047) (hv : v < 65536) (hp : post (ec, lc, lv, cp, ce, dp, ng, mu, dv, le, sm, nt, sz, pl, fe, so, dg, pr, cn, en, fi, fo, nx, s0, s1, s2, s3, s4, s5, cy, zr, ip, nI s, ha, sc, el, pn, a1, a2, a3, a4, a5, a6, a7, a8, a9, a10, a11, a12, a13, zq_st2 a14 s v, a15, a16)) : wpX_pushWord post (ec, lc, lv, cp, ce, dp, ng, mu, dv, le, sm, nt, sz, pl, fe, so, dg, pr, cn, en, fi, fo, nx, s0, s1, s2, s3, s4, s5, cy, zr, ip, nI (s + 2), ha, sc, el, pn, a1, a2, a3, a4, a5, a6, a7, a8, a9, a10, a11, a12, a13, a14, a15, a16) y := by
  refine nm_r (show nI (s + 2) - nI 2 = nI s from pk_sub (by omega)) ?_
  refine zq_setWord s v rfl hy hs hv ?_
  exact hp
theorem zq_pairHL {b c de hl a : Nat} {p : Int32} (hx : p = 2) (hh : hl < 65536) (hp : ps (nI hl)) : wpX_pair ps (ec, lc, lv, cp, ce, dp, ng, mu, dv, le, sm, nt, sz, pl, fe, so, dg, pr, cn, en, fi, fo, nx, s0, s1, s2, s3, s4, s5, cy, zr, ip, sp, ha, sc, el, pn, a1, a2, a3, a4, a5, a6, a7, a8, a9, a10, a11, a12, a13, a14, zq_g b c de hl a, a16) p := by
  subst hx
  refine br_f (by decide) ⟨vp_in_iff.mpr (by decide +kernel), vp_in_iff.mpr (by decide +kernel), ?_⟩
  have e4 : ((2 : Int32) * 2).toNatClampNeg = 4 := by decide
  have e5 : ((2 : Int32) * 2 + 1).toNatClampNeg = 5 := by decide
  rw [e4, e5]
  show ps ((nI (hl / 256) <<< ((8 : Int32) &&& 31)) ||| nI (hl % 256))
  rw [zq_pr (by omega) (by omega), show 256 * (hl / 256) + hl % 256 = hl by omega]
  exact hp
theorem zq_setHL {b c de hl a : Nat} {p v : Int32} (w : Nat) (hx : p = 2) (hv : v = nI w) (hw : w < 65536) (hp : post (ec, lc, lv, cp, ce, dp, ng, mu, dv, le, sm, nt, sz, pl, fe, so, dg, pr, cn, en, fi, fo, nx, s0, s1, s2, s3, s4, s5, cy, zr, ip, sp, ha, sc, el, pn, a1, a2, a3, a4, a5, a6, a7, a8, a9, a10, a11, a12, a13, a14, zq_g b c de w a, a16)) : wpX_setPair post (ec, lc, lv, cp, ce, dp, ng, mu, dv, le, sm, nt, sz, pl, fe, so, dg, pr, cn, en, fi, fo, nx, s0, s1, s2, s3, s4, s5, cy, zr, ip, sp, ha, sc, el, pn, a1, a2, a3, a4, a5, a6, a7, a8, a9, a10, a11, a12, a13, a14, zq_g b c de hl a, a16) p v := by
  subst hx
  subst hv
  have e4 : ((2 : Int32) * 2).toNatClampNeg = 4 := by decide
  have e5 : ((2 : Int32) * 2 + 1).toNatClampNeg = 5 := by decide
  refine br_f (by decide) ⟨vp_in_iff.mpr (by decide +kernel), nm_r (e' := upd (zq_g b c de hl a) 4 (nI (w / 256))) ?_ ⟨vp_in_iff.mpr (by decide +kernel), nm_r (e' := zq_g b c de w a) ?_ hp⟩⟩
  · rw [e4, zq_shr8 (by omega), zq_and255 (by omega), Nat.mod_eq_of_lt (show w / 256 < 256 by omega)]
  · rw [e5, zq_and255 (by omega), zq_gHL]
theorem zq_pairDE {b c de hl a : Nat} {p : Int32} (hx : p = 1) (hh : de < 65536) (hp : ps (nI de)) : wpX_pair ps (ec, lc, lv, cp, ce, dp, ng, mu, dv, le, sm, nt, sz, pl, fe, so, dg, pr, cn, en, fi, fo, nx, s0, s1, s2, s3, s4, s5, cy, zr, ip, sp, ha, sc, el, pn, a1, a2, a3, a4, a5, a6, a7, a8, a9, a10, a11, a12, a13, a14, zq_g b c de hl a, a16) p := by
  subst hx
  refine br_f (by decide) ⟨vp_in_iff.mpr (by decide +kernel), vp_in_iff.mpr (by decide +kernel), ?_⟩
  have e4 : ((2 : Int32) * 1).toNatClampNeg = 2 := by decide
  have e5 : ((2 : Int32) * 1 + 1).toNatClampNeg = 3 := by decide
  rw [e4, e5]
  show ps ((nI (de / 256) <<< ((8 : Int32) &&& 31)) ||| nI (de % 256))
  rw [zq_pr (by omega) (by omega), show 256 * (de / 256) + de % 256 = de by omega]
  exact hp
theorem zq_setDE {b c de hl a : Nat} {p v : Int32} (w : Nat) (hx : p = 1) (hv : v = nI w) (hw : w < 65536) (hp : post (ec, lc, lv, cp, ce, dp, ng, mu, dv, le, sm, nt, sz, pl, fe, so, dg, pr, cn, en, fi, fo, nx, s0, s1, s2, s3, s4, s5, cy, zr, ip, sp, ha, sc, el, pn, a1, a2, a3, a4, a5, a6, a7, a8, a9, a10, a11, a12, a13, a14, zq_g b c w hl a, a16)) : wpX_setPair post (ec, lc, lv, cp, ce, dp, ng, mu, dv, le, sm, nt, sz, pl, fe, so, dg, pr, cn, en, fi, fo, nx, s0, s1, s2, s3, s4, s5, cy, zr, ip, sp, ha, sc, el, pn, a1, a2, a3, a4, a5, a6, a7, a8, a9, a10, a11, a12, a13, a14, zq_g b c de hl a, a16) p v := by
  subst hx
  subst hv
  have e4 : ((2 : Int32) * 1).toNatClampNeg = 2 := by decide
  have e5 : ((2 : Int32) * 1 + 1).toNatClampNeg = 3 := by decide
  refine br_f (by decide) ⟨vp_in_iff.mpr (by decide +kernel), nm_r (e' := upd (zq_g b c de hl a) 2 (nI (w / 256))) ?_ ⟨vp_in_iff.mpr (by decide +kernel), nm_r (e' := zq_g b c w hl a) ?_ hp⟩⟩
  · rw [e4, zq_shr8 (by omega), zq_and255 (by omega), Nat.mod_eq_of_lt (show w / 256 < 256 by omega)]
  · rw [e5, zq_and255 (by omega), zq_gDE]
theorem zq_get (r : Nat) {p : Int32} (hx : p = nI r) (h : ¬ nI r = 6) (hr : r < 8) (hp : ps (a15 r)) : wpX_get ps (ec, lc, lv, cp, ce, dp, ng, mu, dv, le, sm, nt, sz, pl, fe, so, dg, pr, cn, en, fi, fo, nx, s0, s1, s2, s3, s4, s5, cy, zr, ip, sp, ha, sc, el, pn, a1, a2, a3, a4, a5, a6, a7, a8, a9, a10, a11, a12, a13, a14, a15, a16) p := by
  subst hx
  refine br_f h ⟨vp_in_nI hr (by decide), ?_⟩
  rw [nI_clamp (by omega)]
  exact hp
theorem zq_set (r : Nat) {p v : Int32} (hx : p = nI r) (h : ¬ nI r = 6) (hr : r < 8) (hp : post (ec, lc, lv, cp, ce, dp, ng, mu, dv, le, sm, nt, sz, pl, fe, so, dg, pr, cn, en, fi, fo, nx, s0, s1, s2, s3, s4, s5, cy, zr, ip, sp, ha, sc, el, pn, a1, a2, a3, a4, a5, a6, a7, a8, a9, a10, a11, a12, a13, a14, upd a15 r (v &&& 255), a16)) : wpX_set post (ec, lc, lv, cp, ce, dp, ng, mu, dv, le, sm, nt, sz, pl, fe, so, dg, pr, cn, en, fi, fo, nx, s0, s1, s2, s3, s4, s5, cy, zr, ip, sp, ha, sc, el, pn, a1, a2, a3, a4, a5, a6, a7, a8, a9, a10, a11, a12, a13, a14, a15, a16) p v := by
  subst hx
  exact br_f h ⟨vp_in_nI hr (by decide), nm_r (by rw [nI_clamp (by omega)]) hp⟩
theorem zq_c143 {x1 x4 : Int32} (z : Bool) (h7 : ¬ x1 = 7) (hp : post (ec, lc, lv, cp, ce, dp, ng, mu, dv, le, sm, nt, sz, pl, fe, so, dg, pr, cn, en, fi, fo, nx, s0, s1, s2, s3, s4, s5, cy, zq_f z, ip, sp, ha, sc, el, pn, a1, a2, a3, a4, a5, a6, a7, a8, a9, a10, a11, a12, a13, a14, upd a15 7 (x4 &&& 255), a16)) : wX_calculate_143 post x1 x4 (zq_f z) ec lc lv cp ce dp ng mu dv le sm nt sz pl fe so dg pr cn en fi fo nx s0 s1 s2 s3 s4 s5 cy zr ip sp ha sc el pn a1 a2 a3 a4 a5 a6 a7 a8 a9 a10 a11 a12 a13 a14 a15 a16 := by
  cases z
  · exact ⟨rfl, rfl, br_f h7 (nm_e hp)⟩
  · exact ⟨rfl, rfl, br_f h7 (nm_e hp)⟩
theorem zq_c143c {x4 : Int32} (z : Bool) (hp : post (ec, lc, lv, cp, ce, dp, ng, mu, dv, le, sm, nt, sz, pl, fe, so, dg, pr, cn, en, fi, fo, nx, s0, s1, s2, s3, s4, s5, cy, zq_f z, ip, sp, ha, sc, el, pn, a1, a2, a3, a4, a5, a6, a7, a8, a9, a10, a11, a12, a13, a14, a15, a16)) : wX_calculate_143 post 7 x4 (zq_f z) ec lc lv cp ce dp ng mu dv le sm nt sz pl fe so dg pr cn en fi fo nx s0 s1 s2 s3 s4 s5 cy zr ip sp ha sc el pn a1 a2 a3 a4 a5 a6 a7 a8 a9 a10 a11 a12 a13 a14 a15 a16 := by
  cases z
  · exact ⟨rfl, rfl, br_t rfl hp⟩
  · exact ⟨rfl, rfl, br_t rfl hp⟩
theorem zq_c106 {x1 x4 : Int32} (w : Nat) (hx : x4 = nI w) (hw : w < 256) (h7 : ¬ x1 = 7) (hp : post (ec, lc, lv, cp, ce, dp, ng, mu, dv, le, sm, nt, sz, pl, fe, so, dg, pr, cn, en, fi, fo, nx, s0, s1, s2, s3, s4, s5, zq_f false, zq_f (decide (w = 0)), ip, sp, ha, sc, el, pn, a1, a2, a3, a4, a5, a6, a7, a8, a9, a10, a11, a12, a13, a14, upd a15 7 (nI w), a16)) : wX_calculate_106 post x1 x4 ec lc lv cp ce dp ng mu dv le sm nt sz pl fe so dg pr cn en fi fo nx s0 s1 s2 s3 s4 s5 cy zr ip sp ha sc el pn a1 a2 a3 a4 a5 a6 a7 a8 a9 a10 a11 a12 a13 a14 a15 a16 := by
  subst hx
  have e : nI w &&& 255 = nI w := by rw [zq_and255 (by omega), Nat.mod_eq_of_lt hw]
  refine br_f (nI_pos (by omega)) (br_t (show nI w ≤ nI 255 from nI_le (by omega) (by decide)) ⟨rfl, rfl, ?_⟩)
  rw [← e] at hp
  by_cases h : w = 0
  · subst h
    refine br_t (by decide) (zq_c143 true h7 ?_)
    exact hp
  · rw [decide_eq_false h] at hp
    exact br_f (by rw [e]; exact nI_ne0 (by omega) (by omega)) (zq_c143 false h7 hp)
theorem zq_c106c {x4 : Int32} (w : Nat) (hx : x4 = nI w) (hw : w < 256) (hp : post (ec, lc, lv, cp, ce, dp, ng, mu, dv, le, sm, nt, sz, pl, fe, so, dg, pr, cn, en, fi, fo, nx, s0, s1, s2, s3, s4, s5, zq_f false, zq_f (decide (w = 0)), ip, sp, ha, sc, el, pn, a1, a2, a3, a4, a5, a6, a7, a8, a9, a10, a11, a12, a13, a14, a15, a16)) : wX_calculate_106 post 7 x4 ec lc lv cp ce dp ng mu dv le sm nt sz pl fe so dg pr cn en fi fo nx s0 s1 s2 s3 s4 s5 cy zr ip sp ha sc el pn a1 a2 a3 a4 a5 a6 a7 a8 a9 a10 a11 a12 a13 a14 a15 a16 := by
  subst hx
  have e : nI w &&& 255 = nI w := by rw [zq_and255 (by omega), Nat.mod_eq_of_lt hw]
  refine br_f (nI_pos (by omega)) (br_t (show nI w ≤ nI 255 from nI_le (by omega) (by decide)) ⟨rfl, rfl, ?_⟩)
  by_cases h : w = 0
  · subst h
    exact br_t (by decide) (zq_c143c true hp)
  · rw [decide_eq_false h] at hp
    exact br_f (by rw [e]; exact nI_ne0 (by omega) (by omega)) (zq_c143c false hp)
theorem zq_holds1 (z : Bool) (hp : ps (zq_f z)) : wpX_holds ps (ec, lc, lv, cp, ce, dp, ng, mu, dv, le, sm, nt, sz, pl, fe, so, dg, pr, cn, en, fi, fo, nx, s0, s1, s2, s3, s4, s5, cy, zq_f z, ip, sp, ha, sc, el, pn, a1, a2, a3, a4, a5, a6, a7, a8, a9, a10, a11, a12, a13, a14, a15, a16) 1 := by
  cases z
  · exact br_f (by decide) (br_t rfl (br_f (by decide) hp))
  · exact br_f (by decide) (br_t rfl (br_t rfl hp))
theorem zq_holds0 (z : Bool) (hp : ps (zq_f (!z))) : wpX_holds ps (ec, lc, lv, cp, ce, dp, ng, mu, dv, le, sm, nt, sz, pl, fe, so, dg, pr, cn, en, fi, fo, nx, s0, s1, s2, s3, s4, s5, cy, zq_f z, ip, sp, ha, sc, el, pn, a1, a2, a3, a4, a5, a6, a7, a8, a9, a10, a11, a12, a13, a14, a15, a16) 0 := by
  cases z
  · exact br_f (by decide) (br_f (by decide) (br_t rfl hp))
  · exact br_f (by decide) (br_f (by decide) (br_f (by decide) hp))
theorem zq_holds3 (z : Bool) (hp : ps (zq_f z)) : wpX_holds ps (ec, lc, lv, cp, ce, dp, ng, mu, dv, le, sm, nt, sz, pl, fe, so, dg, pr, cn, en, fi, fo, nx, s0, s1, s2, s3, s4, s5, zq_f z, zr, ip, sp, ha, sc, el, pn, a1, a2, a3, a4, a5, a6, a7, a8, a9, a10, a11, a12, a13, a14, a15, a16) 3 := by
  cases z
  · exact br_t (by decide) (br_t rfl (br_f (by decide) hp))
  · exact br_t (by decide) (br_t rfl (br_t rfl hp))
theorem zq_print {l : List Nat} {c : Nat} {x : Int32} (hx : x = nI c) (hl : l.length < 60) (hc : c < 128) (hp : post (ec, lc, lv, cp, ce, dp, ng, mu, dv, le, sm, nt, sz, pl, fe, so, dg, pr, cn, en, fi, fo, nx, s0, s1, s2, s3, s4, s5, cy, zr, ip, sp, ha, sc, el, nI (l ++ [c]).length, a1, a2, a3, a4, a5, a6, a7, a8, a9, a10, a11, a12, a13, a14, a15, zq_tx (l ++ [c]))) : wpX_print post (ec, lc, lv, cp, ce, dp, ng, mu, dv, le, sm, nt, sz, pl, fe, so, dg, pr, cn, en, fi, fo, nx, s0, s1, s2, s3, s4, s5, cy, zr, ip, sp, ha, sc, el, nI l.length, a1, a2, a3, a4, a5, a6, a7, a8, a9, a10, a11, a12, a13, a14, a15, zq_tx l) x := by
  subst hx
  refine br_f (nI_ge hl (by decide)) ⟨vp_in_nI hl (by decide), nm_r (e' := zq_tx (l ++ [c])) ?_ (nm_r (e' := nI (l ++ [c]).length) ?_ hp)⟩
  · rw [nI_clamp (by omega), zq_c7 c hc, zq_tx_add]
  · rw [nI_1, List.length_append]; rfl
theorem zq_sLow (i : Nat) (b y z : Int32) (hb : a14 i &&& 255 = b) (hi : i < 2048) (hd : ((b >>> ((3 : Int32) &&& 31)) &&& 7 = y ∧ b &&& 7 = z) ∧ ¬ b = 118 ∧ ¬ 64 ≤ b) (h : ∀ Q : St2 → Prop, (∀ v, post v → Q v) → wpX_stepLow Q (ec, lc, lv, cp, ce, dp, ng, mu, dv, le, sm, nt, sz, pl, fe, so, dg, pr, cn, en, fi, fo, nx, s0, s1, s2, s3, s4, s5, cy, zr, nI (i + 1), sp, ha, sc, el, pn, a1, a2, a3, a4, a5, a6, a7, a8, a9, a10, a11, a12, a13, a14, a15, a16) b y z) : wpX_step post (ec, lc, lv, cp, ce, dp, ng, mu, dv, le, sm, nt, sz, pl, fe, so, dg, pr, cn, en, fi, fo, nx, s0, s1, s2, s3, s4, s5, cy, zr, nI i, sp, ha, sc, el, pn, a1, a2, a3, a4, a5, a6, a7, a8, a9, a10, a11, a12, a13, a14, a15, a16) := by
  obtain ⟨⟨hy, hz⟩, h1, h2⟩ := hd
  unfold wpX_step
  refine zq_next i hb hi ?_
  refine nm_r hy ?_
  refine nm_r hz ?_
  refine br_f h1 (br_f h2 (h _ ?_))
  intro v hv
  obtain ⟨qec, qlc, qlv, qcp, qce, qdp, qng, qmu, qdv, qle, qsm, qnt, qsz, qpl, qfe, qso, qdg, qpr, qcn, qen, qfi, qfo, qnx, qs0, qs1, qs2, qs3, qs4, qs5, qcy, qzr, qip, qsp, qha, qsc, qel, qpn, qa1, qa2, qa3, qa4, qa5, qa6, qa7, qa8, qa9, qa10, qa11, qa12, qa13, qa14, qa15, qa16⟩ := v
  exact hv
theorem zq_sMov (i : Nat) (b y z : Int32) (hb : a14 i &&& 255 = b) (hi : i < 2048) (hd : ((b >>> ((3 : Int32) &&& 31)) &&& 7 = y ∧ b &&& 7 = z) ∧ ¬ b = 118 ∧ 64 ≤ b ∧ ¬ 128 ≤ b) (h : ∀ Q : St2 → Prop, (∀ v, post v → Q v) → wpX_get (fun r => wpX_set Q (ec, lc, lv, cp, ce, dp, ng, mu, dv, le, sm, nt, sz, pl, fe, so, dg, pr, cn, en, fi, fo, nx, s0, s1, s2, s3, s4, s5, cy, zr, nI (i + 1), sp, ha, sc, el, pn, a1, a2, a3, a4, a5, a6, a7, a8, a9, a10, a11, a12, a13, a14, a15, a16) y r) (ec, lc, lv, cp, ce, dp, ng, mu, dv, le, sm, nt, sz, pl, fe, so, dg, pr, cn, en, fi, fo, nx, s0, s1, s2, s3, s4, s5, cy, zr, nI (i + 1), sp, ha, sc, el, pn, a1, a2, a3, a4, a5, a6, a7, a8, a9, a10, a11, a12, a13, a14, a15, a16) z) : wpX_step post (ec, lc, lv, cp, ce, dp, ng, mu, dv, le, sm, nt, sz, pl, fe, so, dg, pr, cn, en, fi, fo, nx, s0, s1, s2, s3, s4, s5, cy, zr, nI i, sp, ha, sc, el, pn, a1, a2, a3, a4, a5, a6, a7, a8, a9, a10, a11, a12, a13, a14, a15, a16) := by
  obtain ⟨⟨hy, hz⟩, h1, h2, h3⟩ := hd
  unfold wpX_step
  refine zq_next i hb hi ?_
  refine nm_r hy ?_
  refine nm_r hz ?_
  refine br_f h1 (br_t h2 (br_f h3 (h _ ?_)))
  intro v hv
  obtain ⟨qec, qlc, qlv, qcp, qce, qdp, qng, qmu, qdv, qle, qsm, qnt, qsz, qpl, qfe, qso, qdg, qpr, qcn, qen, qfi, qfo, qnx, qs0, qs1, qs2, qs3, qs4, qs5, qcy, qzr, qip, qsp, qha, qsc, qel, qpn, qa1, qa2, qa3, qa4, qa5, qa6, qa7, qa8, qa9, qa10, qa11, qa12, qa13, qa14, qa15, qa16⟩ := v
  exact hv
theorem zq_sAlu (i : Nat) (b y z : Int32) (hb : a14 i &&& 255 = b) (hi : i < 2048) (hd : ((b >>> ((3 : Int32) &&& 31)) &&& 7 = y ∧ b &&& 7 = z) ∧ ¬ b = 118 ∧ 64 ≤ b ∧ 128 ≤ b ∧ ¬ 192 ≤ b) (h : ∀ Q : St2 → Prop, (∀ v, post v → Q v) → wpX_get (fun r => wpX_calculate Q (ec, lc, lv, cp, ce, dp, ng, mu, dv, le, sm, nt, sz, pl, fe, so, dg, pr, cn, en, fi, fo, nx, s0, s1, s2, s3, s4, s5, cy, zr, nI (i + 1), sp, ha, sc, el, pn, a1, a2, a3, a4, a5, a6, a7, a8, a9, a10, a11, a12, a13, a14, a15, a16) y r) (ec, lc, lv, cp, ce, dp, ng, mu, dv, le, sm, nt, sz, pl, fe, so, dg, pr, cn, en, fi, fo, nx, s0, s1, s2, s3, s4, s5, cy, zr, nI (i + 1), sp, ha, sc, el, pn, a1, a2, a3, a4, a5, a6, a7, a8, a9, a10, a11, a12, a13, a14, a15, a16) z) : wpX_step post (ec, lc, lv, cp, ce, dp, ng, mu, dv, le, sm, nt, sz, pl, fe, so, dg, pr, cn, en, fi, fo, nx, s0, s1, s2, s3, s4, s5, cy, zr, nI i, sp, ha, sc, el, pn, a1, a2, a3, a4, a5, a6, a7, a8, a9, a10, a11, a12, a13, a14, a15, a16) := by
  obtain ⟨⟨hy, hz⟩, h1, h2, h3, h4⟩ := hd
  unfold wpX_step
  refine zq_next i hb hi ?_
  refine nm_r hy ?_
  refine nm_r hz ?_
  refine br_f h1 (br_t h2 (br_t h3 (br_f h4 (h _ ?_))))
  intro v hv
  obtain ⟨qec, qlc, qlv, qcp, qce, qdp, qng, qmu, qdv, qle, qsm, qnt, qsz, qpl, qfe, qso, qdg, qpr, qcn, qen, qfi, qfo, qnx, qs0, qs1, qs2, qs3, qs4, qs5, qcy, qzr, qip, qsp, qha, qsc, qel, qpn, qa1, qa2, qa3, qa4, qa5, qa6, qa7, qa8, qa9, qa10, qa11, qa12, qa13, qa14, qa15, qa16⟩ := v
  exact hv
theorem zq_sHigh (i : Nat) (b y z : Int32) (hb : a14 i &&& 255 = b) (hi : i < 2048) (hd : ((b >>> ((3 : Int32) &&& 31)) &&& 7 = y ∧ b &&& 7 = z) ∧ ¬ b = 118 ∧ 64 ≤ b ∧ 128 ≤ b ∧ 192 ≤ b) (h : ∀ Q : St2 → Prop, (∀ v, post v → Q v) → wpX_stepHigh Q (ec, lc, lv, cp, ce, dp, ng, mu, dv, le, sm, nt, sz, pl, fe, so, dg, pr, cn, en, fi, fo, nx, s0, s1, s2, s3, s4, s5, cy, zr, nI (i + 1), sp, ha, sc, el, pn, a1, a2, a3, a4, a5, a6, a7, a8, a9, a10, a11, a12, a13, a14, a15, a16) b y z) : wpX_step post (ec, lc, lv, cp, ce, dp, ng, mu, dv, le, sm, nt, sz, pl, fe, so, dg, pr, cn, en, fi, fo, nx, s0, s1, s2, s3, s4, s5, cy, zr, nI i, sp, ha, sc, el, pn, a1, a2, a3, a4, a5, a6, a7, a8, a9, a10, a11, a12, a13, a14, a15, a16) := by
  obtain ⟨⟨hy, hz⟩, h1, h2, h3, h4⟩ := hd
  unfold wpX_step
  refine zq_next i hb hi ?_
  refine nm_r hy ?_
  refine nm_r hz ?_
  refine br_f h1 (br_t h2 (br_t h3 (br_t h4 (h _ ?_))))
  intro v hv
  obtain ⟨qec, qlc, qlv, qcp, qce, qdp, qng, qmu, qdv, qle, qsm, qnt, qsz, qpl, qfe, qso, qdg, qpr, qcn, qen, qfi, qfo, qnx, qs0, qs1, qs2, qs3, qs4, qs5, qcy, qzr, qip, qsp, qha, qsc, qel, qpn, qa1, qa2, qa3, qa4, qa5, qa6, qa7, qa8, qa9, qa10, qa11, qa12, qa13, qa14, qa15, qa16⟩ := v
  exact hv
theorem zq_sHalt (i : Nat) (hb : a14 i &&& 255 = 118) (hi : i < 2048) (h : post (ec, lc, lv, cp, ce, dp, ng, mu, dv, le, sm, nt, sz, pl, fe, so, dg, pr, cn, en, fi, fo, nx, s0, s1, s2, s3, s4, s5, cy, zr, nI (i + 1), sp, 1, sc, el, pn, a1, a2, a3, a4, a5, a6, a7, a8, a9, a10, a11, a12, a13, a14, a15, a16)) : wpX_step post (ec, lc, lv, cp, ce, dp, ng, mu, dv, le, sm, nt, sz, pl, fe, so, dg, pr, cn, en, fi, fo, nx, s0, s1, s2, s3, s4, s5, cy, zr, nI i, sp, ha, sc, el, pn, a1, a2, a3, a4, a5, a6, a7, a8, a9, a10, a11, a12, a13, a14, a15, a16) := by
  unfold wpX_step
  refine zq_next i hb hi ?_
  refine nm_e ?_
  refine nm_e ?_
  exact br_t rfl h
end
end
section
/-! the machine's instructions, each as a step from a picture to a picture -/
theorem zq_x255 : ∀ a, a < 256 → nI a ^^^ 255 = nI (255 - a) := by decide +kernel
theorem zq_a128 : ∀ a, a < 256 → nI a &&& 128 = nI (if a < 128 then 0 else 128) := by decide +kernel
theorem zq_wrap (n : Nat) : nI (4294967296 + n) = nI n := by
  apply Int32.toBitVec_inj.1
  show BitVec.ofNat 32 (4294967296 + n) = BitVec.ofNat 32 n
  apply BitVec.eq_of_toNat_eq
  rw [BitVec.toNat_ofNat, BitVec.toNat_ofNat]
  omega
theorem zq_neg16 {h d : Nat} (hd : d < 65536) (hl : h < d) : (nI h - nI d) &&& 65535 = nI (65536 + h - d) := by
  rw [← zq_wrap h, pk_sub (by omega), zq_and65535 (by omega)]
  exact congrArg nI (by omega)

def zq_M (u : St2) (m : Nat → Int32) (b c de hl a : Nat) (l : List Nat) (cf zf : Bool) (i s : Nat) (h : Int32) : St2 := match u with
  | (ec, lc, lv, cp, ce, dp, ng, mu, dv, le, sm, nt, sz, pl, fe, so, dg, pr, cn, en, fi, fo, nx, s0, s1, s2, s3, s4, s5, cy, zr, ip, sp, ha, sc, el, pn, a1, a2, a3, a4, a5, a6, a7, a8, a9, a10, a11, a12, a13, a14, a15, a16) => (ec, lc, lv, cp, ce, dp, ng, mu, dv, le, sm, nt, sz, pl, fe, so, dg, pr, cn, en, fi, fo, nx, s0, s1, s2, s3, s4, s5, zq_f cf, zq_f zf, nI i, nI s, h, sc, el, nI l.length, a1, a2, a3, a4, a5, a6, a7, a8, a9, a10, a11, a12, a13, m, zq_g b c de hl a, zq_tx l)
def zq_Go (u v : St2) : Prop := ∀ P : St2 → Prop, P v → wpX_step P u
section
variable {post : St2 → Prop} {pst : Int32 → St2 → Prop} {ps : Int32 → Prop} {ec lc lv cp ce dp ng mu dv le sm nt sz pl fe so dg pr cn en fi fo nx s0 s1 s2 s3 s4 s5 cy zr ip sp ha sc el pn : Int32} {a1 a2 a3 a4 a5 a6 a7 a8 a9 a10 a11 a12 a13 a14 a15 a16 : Nat → Int32}
theorem zq_x87 {b c de hl a : Nat} {x3 : Int32} (w : Nat) (z : Bool) (hx : x3 &&& 65535 = nI w) (hw : w < 65536) (hp : post (ec, lc, lv, cp, ce, dp, ng, mu, dv, le, sm, nt, sz, pl, fe, so, dg, pr, cn, en, fi, fo, nx, s0, s1, s2, s3, s4, s5, cy, zq_f z, ip, sp, ha, sc, el, pn, a1, a2, a3, a4, a5, a6, a7, a8, a9, a10, a11, a12, a13, a14, zq_g b c de w a, a16)) : wX_stepExtended_87 post x3 (zq_f z) ec lc lv cp ce dp ng mu dv le sm nt sz pl fe so dg pr cn en fi fo nx s0 s1 s2 s3 s4 s5 cy zr ip sp ha sc el pn a1 a2 a3 a4 a5 a6 a7 a8 a9 a10 a11 a12 a13 a14 (zq_g b c de hl a) a16 := by
  cases z
  · refine ⟨rfl, rfl, ?_⟩
    refine zq_setHL w rfl hx hw ?_
    exact hp
  · refine ⟨rfl, rfl, ?_⟩
    refine zq_setHL w rfl hx hw ?_
    exact hp
theorem zq_x70 {b c de hl a : Nat} {x3 : Int32} (w : Nat) (z : Bool) (hx : x3 &&& 65535 = nI w) (hw : w < 65536) (hp : post (ec, lc, lv, cp, ce, dp, ng, mu, dv, le, sm, nt, sz, pl, fe, so, dg, pr, cn, en, fi, fo, nx, s0, s1, s2, s3, s4, s5, zq_f z, zq_f (decide (w = 0)), ip, sp, ha, sc, el, pn, a1, a2, a3, a4, a5, a6, a7, a8, a9, a10, a11, a12, a13, a14, zq_g b c de w a, a16)) : wX_stepExtended_70 post x3 (zq_f z) ec lc lv cp ce dp ng mu dv le sm nt sz pl fe so dg pr cn en fi fo nx s0 s1 s2 s3 s4 s5 cy zr ip sp ha sc el pn a1 a2 a3 a4 a5 a6 a7 a8 a9 a10 a11 a12 a13 a14 (zq_g b c de hl a) a16 := by
  have g : ((x3 &&& 65535) = 0 → wX_stepExtended_87 post x3 1 ec lc lv cp ce dp ng mu dv le sm nt sz pl fe so dg pr cn en fi fo nx s0 s1 s2 s3 s4 s5 (zq_f z) zr ip sp ha sc el pn a1 a2 a3 a4 a5 a6 a7 a8 a9 a10 a11 a12 a13 a14 (zq_g b c de hl a) a16) ∧ (¬ (x3 &&& 65535) = 0 → wX_stepExtended_87 post x3 0 ec lc lv cp ce dp ng mu dv le sm nt sz pl fe so dg pr cn en fi fo nx s0 s1 s2 s3 s4 s5 (zq_f z) zr ip sp ha sc el pn a1 a2 a3 a4 a5 a6 a7 a8 a9 a10 a11 a12 a13 a14 (zq_g b c de hl a) a16) := by
    by_cases h : w = 0
    · subst h
      exact br_t hx (zq_x87 0 true hx hw hp)
    · rw [decide_eq_false h] at hp
      exact br_f (by rw [hx]; exact nI_ne0 (by omega) (by omega)) (zq_x87 w false hx hw hp)
  cases z
  · exact ⟨rfl, rfl, g⟩
  · exact ⟨rfl, rfl, g⟩
end
section
variable {u : St2} {m : Nat → Int32} {b c de hl a s : Nat} {l : List Nat} {cf zf : Bool}
theorem zq_i_ldB (i : Nat) (hi : i < 2000) {n : Nat} (h0 : m i &&& 255 = nI 6) (h1 : m (i + 1) &&& 255 = nI n) (hn : n < 256) :
    zq_Go (zq_M u m b c de hl a l cf zf i s 0) (zq_M u m n c de hl a l cf zf (i + 2) s 0) := by
  intro P hp
  obtain ⟨qec, qlc, qlv, qcp, qce, qdp, qng, qmu, qdv, qle, qsm, qnt, qsz, qpl, qfe, qso, qdg, qpr, qcn, qen, qfi, qfo, qnx, qs0, qs1, qs2, qs3, qs4, qs5, qcy, qzr, qip, qsp, qha, qsc, qel, qpn, qa1, qa2, qa3, qa4, qa5, qa6, qa7, qa8, qa9, qa10, qa11, qa12, qa13, qa14, qa15, qa16⟩ := u
  refine zq_sLow i 6 0 6 h0 (by omega) (by decide +kernel) ?_
  intro Q hQ
  have e : upd (zq_g b c de hl a) 0 (nI n &&& 255) = zq_g n c de hl a := by rw [zq_and255 (by omega), Nat.mod_eq_of_lt hn, zq_gB]
  refine br_f (by decide) (br_f (by decide) (br_f (by decide) (br_f (by decide) (br_f (by decide) (br_t rfl ?_)))))
  refine zq_next (i + 1) h1 (by omega) ?_
  refine zq_set 0 rfl (by decide) (by decide) ?_
  rw [e]
  exact hQ _ hp
theorem zq_i_ldC (i : Nat) (hi : i < 2000) {n : Nat} (h0 : m i &&& 255 = nI 14) (h1 : m (i + 1) &&& 255 = nI n) (hn : n < 256) :
    zq_Go (zq_M u m b c de hl a l cf zf i s 0) (zq_M u m b n de hl a l cf zf (i + 2) s 0) := by
  intro P hp
  obtain ⟨qec, qlc, qlv, qcp, qce, qdp, qng, qmu, qdv, qle, qsm, qnt, qsz, qpl, qfe, qso, qdg, qpr, qcn, qen, qfi, qfo, qnx, qs0, qs1, qs2, qs3, qs4, qs5, qcy, qzr, qip, qsp, qha, qsc, qel, qpn, qa1, qa2, qa3, qa4, qa5, qa6, qa7, qa8, qa9, qa10, qa11, qa12, qa13, qa14, qa15, qa16⟩ := u
  refine zq_sLow i 14 1 6 h0 (by omega) (by decide +kernel) ?_
  intro Q hQ
  have e : upd (zq_g b c de hl a) 1 (nI n &&& 255) = zq_g b n de hl a := by rw [zq_and255 (by omega), Nat.mod_eq_of_lt hn, zq_gC]
  refine br_f (by decide) (br_f (by decide) (br_f (by decide) (br_f (by decide) (br_f (by decide) (br_t rfl ?_)))))
  refine zq_next (i + 1) h1 (by omega) ?_
  refine zq_set 1 rfl (by decide) (by decide) ?_
  rw [e]
  exact hQ _ hp
theorem zq_i_ldA (i : Nat) (hi : i < 2000) {n : Nat} (h0 : m i &&& 255 = nI 62) (h1 : m (i + 1) &&& 255 = nI n) (hn : n < 256) :
    zq_Go (zq_M u m b c de hl a l cf zf i s 0) (zq_M u m b c de hl n l cf zf (i + 2) s 0) := by
  intro P hp
  obtain ⟨qec, qlc, qlv, qcp, qce, qdp, qng, qmu, qdv, qle, qsm, qnt, qsz, qpl, qfe, qso, qdg, qpr, qcn, qen, qfi, qfo, qnx, qs0, qs1, qs2, qs3, qs4, qs5, qcy, qzr, qip, qsp, qha, qsc, qel, qpn, qa1, qa2, qa3, qa4, qa5, qa6, qa7, qa8, qa9, qa10, qa11, qa12, qa13, qa14, qa15, qa16⟩ := u
  refine zq_sLow i 62 7 6 h0 (by omega) (by decide +kernel) ?_
  intro Q hQ
  have e : upd (zq_g b c de hl a) 7 (nI n &&& 255) = zq_g b c de hl n := by rw [zq_and255 (by omega), Nat.mod_eq_of_lt hn, zq_gA]
  refine br_f (by decide) (br_f (by decide) (br_f (by decide) (br_f (by decide) (br_f (by decide) (br_t rfl ?_)))))
  refine zq_next (i + 1) h1 (by omega) ?_
  refine zq_set 7 rfl (by decide) (by decide) ?_
  rw [e]
  exact hQ _ hp
theorem zq_i_ldWHL (i : Nat) (hi : i < 2000) {lo hi' : Nat} (w : Nat) (hw : lo + 256 * hi' = w) (h0 : m i &&& 255 = nI 33) (h1 : m (i + 1) &&& 255 = nI lo) (h2 : m (i + 1 + 1) &&& 255 = nI hi') (g1 : lo < 256) (g2 : hi' < 256) :
    zq_Go (zq_M u m b c de hl a l cf zf i s 0) (zq_M u m b c de w a l cf zf (i + 3) s 0) := by
  intro P hp
  obtain ⟨qec, qlc, qlv, qcp, qce, qdp, qng, qmu, qdv, qle, qsm, qnt, qsz, qpl, qfe, qso, qdg, qpr, qcn, qen, qfi, qfo, qnx, qs0, qs1, qs2, qs3, qs4, qs5, qcy, qzr, qip, qsp, qha, qsc, qel, qpn, qa1, qa2, qa3, qa4, qa5, qa6, qa7, qa8, qa9, qa10, qa11, qa12, qa13, qa14, qa15, qa16⟩ := u
  subst hw
  refine zq_sLow i 33 4 1 h0 (by omega) (by decide +kernel) ?_
  intro Q hQ
  refine br_t rfl (br_t (by decide) ?_)
  refine zq_nextWord (i + 1) lo hi' h1 h2 g1 g2 (by omega) ?_
  refine zq_setHL (lo + 256 * hi') (by decide) rfl (by omega) ?_
  exact hQ _ hp
theorem zq_i_ldWDE (i : Nat) (hi : i < 2000) {lo hi' : Nat} (w : Nat) (hw : lo + 256 * hi' = w) (h0 : m i &&& 255 = nI 17) (h1 : m (i + 1) &&& 255 = nI lo) (h2 : m (i + 1 + 1) &&& 255 = nI hi') (g1 : lo < 256) (g2 : hi' < 256) :
    zq_Go (zq_M u m b c de hl a l cf zf i s 0) (zq_M u m b c w hl a l cf zf (i + 3) s 0) := by
  intro P hp
  obtain ⟨qec, qlc, qlv, qcp, qce, qdp, qng, qmu, qdv, qle, qsm, qnt, qsz, qpl, qfe, qso, qdg, qpr, qcn, qen, qfi, qfo, qnx, qs0, qs1, qs2, qs3, qs4, qs5, qcy, qzr, qip, qsp, qha, qsc, qel, qpn, qa1, qa2, qa3, qa4, qa5, qa6, qa7, qa8, qa9, qa10, qa11, qa12, qa13, qa14, qa15, qa16⟩ := u
  subst hw
  refine zq_sLow i 17 2 1 h0 (by omega) (by decide +kernel) ?_
  intro Q hQ
  refine br_t rfl (br_t (by decide) ?_)
  refine zq_nextWord (i + 1) lo hi' h1 h2 g1 g2 (by omega) ?_
  refine zq_setDE (lo + 256 * hi') (by decide) rfl (by omega) ?_
  exact hQ _ hp
theorem zq_i_ldHLm (i : Nat) (hi : i < 2000) {lo hi' x y : Nat} (w : Nat) (hw : lo + 256 * hi' = w) (hw2 : w < 2047) (hx : m w &&& 255 = nI x) (hy : m (w + 1) &&& 255 = nI y) (gx : x < 256) (gy : y < 256) (h0 : m i &&& 255 = nI 42) (h1 : m (i + 1) &&& 255 = nI lo) (h2 : m (i + 1 + 1) &&& 255 = nI hi') (g1 : lo < 256) (g2 : hi' < 256) :
    zq_Go (zq_M u m b c de hl a l cf zf i s 0) (zq_M u m b c de (x + 256 * y) a l cf zf (i + 3) s 0) := by
  intro P hp
  obtain ⟨qec, qlc, qlv, qcp, qce, qdp, qng, qmu, qdv, qle, qsm, qnt, qsz, qpl, qfe, qso, qdg, qpr, qcn, qen, qfi, qfo, qnx, qs0, qs1, qs2, qs3, qs4, qs5, qcy, qzr, qip, qsp, qha, qsc, qel, qpn, qa1, qa2, qa3, qa4, qa5, qa6, qa7, qa8, qa9, qa10, qa11, qa12, qa13, qa14, qa15, qa16⟩ := u
  subst hw
  refine zq_sLow i 42 5 2 h0 (by omega) (by decide +kernel) ?_
  intro Q hQ
  refine br_f (by decide) (br_f (by decide) (br_f (by decide) (br_f (by decide) (br_f (by decide) (br_f (by decide) (br_f (by decide) (br_t rfl ?_)))))))
  unfold wpX_moveMemory
  refine zq_nextWord (i + 1) lo hi' h1 h2 g1 g2 (by omega) ?_
  refine br_f (by decide) (br_t rfl ?_)
  refine zq_wordAt (lo + 256 * hi') x y rfl hx hy gx gy hw2 ?_
  refine zq_setHL (x + 256 * y) rfl rfl (by omega) ?_
  exact hQ _ hp
theorem zq_i_stHLm (i : Nat) (hi : i < 2000) {lo hi' : Nat} (w : Nat) (hw : lo + 256 * hi' = w) (hw2 : w < 2047) (hh : hl < 65536) (h0 : m i &&& 255 = nI 34) (h1 : m (i + 1) &&& 255 = nI lo) (h2 : m (i + 1 + 1) &&& 255 = nI hi') (g1 : lo < 256) (g2 : hi' < 256) :
    zq_Go (zq_M u m b c de hl a l cf zf i s 0) (zq_M u (zq_st2 m w hl) b c de hl a l cf zf (i + 3) s 0) := by
  intro P hp
  obtain ⟨qec, qlc, qlv, qcp, qce, qdp, qng, qmu, qdv, qle, qsm, qnt, qsz, qpl, qfe, qso, qdg, qpr, qcn, qen, qfi, qfo, qnx, qs0, qs1, qs2, qs3, qs4, qs5, qcy, qzr, qip, qsp, qha, qsc, qel, qpn, qa1, qa2, qa3, qa4, qa5, qa6, qa7, qa8, qa9, qa10, qa11, qa12, qa13, qa14, qa15, qa16⟩ := u
  subst hw
  refine zq_sLow i 34 4 2 h0 (by omega) (by decide +kernel) ?_
  intro Q hQ
  refine br_f (by decide) (br_f (by decide) (br_f (by decide) (br_f (by decide) (br_f (by decide) (br_f (by decide) (br_f (by decide) (br_t rfl ?_)))))))
  unfold wpX_moveMemory
  refine zq_nextWord (i + 1) lo hi' h1 h2 g1 g2 (by omega) ?_
  refine br_t rfl ?_
  refine zq_pairHL rfl hh ?_
  refine zq_setWord (lo + 256 * hi') hl rfl rfl hw2 hh ?_
  exact hQ _ hp
theorem zq_i_stAm (i : Nat) (hi : i < 2000) {lo hi' : Nat} (w : Nat) (hw : lo + 256 * hi' = w) (hw2 : w < 2047) (h0 : m i &&& 255 = nI 50) (h1 : m (i + 1) &&& 255 = nI lo) (h2 : m (i + 1 + 1) &&& 255 = nI hi') (g1 : lo < 256) (g2 : hi' < 256) :
    zq_Go (zq_M u m b c de hl a l cf zf i s 0) (zq_M u (upd m w (nI a).toInt8.toInt32) b c de hl a l cf zf (i + 3) s 0) := by
  intro P hp
  obtain ⟨qec, qlc, qlv, qcp, qce, qdp, qng, qmu, qdv, qle, qsm, qnt, qsz, qpl, qfe, qso, qdg, qpr, qcn, qen, qfi, qfo, qnx, qs0, qs1, qs2, qs3, qs4, qs5, qcy, qzr, qip, qsp, qha, qsc, qel, qpn, qa1, qa2, qa3, qa4, qa5, qa6, qa7, qa8, qa9, qa10, qa11, qa12, qa13, qa14, qa15, qa16⟩ := u
  subst hw
  refine zq_sLow i 50 6 2 h0 (by omega) (by decide +kernel) ?_
  intro Q hQ
  refine br_f (by decide) (br_f (by decide) (br_f (by decide) (br_f (by decide) (br_f (by decide) (br_f (by decide) (br_f (by decide) (br_t rfl ?_)))))))
  unfold wpX_moveMemory
  refine zq_nextWord (i + 1) lo hi' h1 h2 g1 g2 (by omega) ?_
  refine br_f (by decide) (br_f (by decide) (br_t rfl ?_))
  refine zq_setByte (lo + 256 * hi') rfl (by omega) ?_
  exact hQ _ hp
theorem zq_i_call (i : Nat) (hi : i < 2000) {lo hi' : Nat} (w : Nat) (hw : lo + 256 * hi' = w) (hs : s < 2047) (h0 : m i &&& 255 = nI 205) (h1 : m (i + 1) &&& 255 = nI lo) (h2 : m (i + 1 + 1) &&& 255 = nI hi') (g1 : lo < 256) (g2 : hi' < 256) :
    zq_Go (zq_M u m b c de hl a l cf zf i (s + 2) 0) (zq_M u (zq_st2 m s (i + 3)) b c de hl a l cf zf w s 0) := by
  intro P hp
  obtain ⟨qec, qlc, qlv, qcp, qce, qdp, qng, qmu, qdv, qle, qsm, qnt, qsz, qpl, qfe, qso, qdg, qpr, qcn, qen, qfi, qfo, qnx, qs0, qs1, qs2, qs3, qs4, qs5, qcy, qzr, qip, qsp, qha, qsc, qel, qpn, qa1, qa2, qa3, qa4, qa5, qa6, qa7, qa8, qa9, qa10, qa11, qa12, qa13, qa14, qa15, qa16⟩ := u
  subst hw
  refine zq_sHigh i 205 1 5 h0 (by omega) (by decide +kernel) ?_
  intro Q hQ
  refine br_f (by decide) (br_f (by decide) (br_f (by decide) (br_f (by decide) (br_t rfl ?_))))
  refine zq_nextWord (i + 1) lo hi' h1 h2 g1 g2 (by omega) ?_
  refine zq_pushWord s (i + 3) rfl hs (by omega) ?_
  exact hQ _ hp
theorem zq_i_ret (i : Nat) (hi : i < 2000) {r : Nat} (hr : r < 65536) (hs : s < 2047) (r1 : m s &&& 255 = nI (r % 256)) (r2 : m (s + 1) &&& 255 = nI (r / 256)) (h0 : m i &&& 255 = nI 201) :
    zq_Go (zq_M u m b c de hl a l cf zf i s 0) (zq_M u m b c de hl a l cf zf r (s + 2) 0) := by
  intro P hp
  obtain ⟨qec, qlc, qlv, qcp, qce, qdp, qng, qmu, qdv, qle, qsm, qnt, qsz, qpl, qfe, qso, qdg, qpr, qcn, qen, qfi, qfo, qnx, qs0, qs1, qs2, qs3, qs4, qs5, qcy, qzr, qip, qsp, qha, qsc, qel, qpn, qa1, qa2, qa3, qa4, qa5, qa6, qa7, qa8, qa9, qa10, qa11, qa12, qa13, qa14, qa15, qa16⟩ := u
  refine zq_sHigh i 201 1 1 h0 (by omega) (by decide +kernel) ?_
  intro Q hQ
  have e : r % 256 + 256 * (r / 256) = r := by omega
  refine br_f (by decide) (br_f (by decide) (br_f (by decide) (br_f (by decide) (br_f (by decide) (br_t rfl ?_)))))
  refine zq_popWord s (r % 256) (r / 256) r1 r2 (by omega) (by omega) hs ?_
  rw [e]
  exact hQ _ hp
theorem zq_i_retZ (i : Nat) (hi : i < 2000) {r : Nat} (hr : r < 65536) (hs : s < 2047) (r1 : m s &&& 255 = nI (r % 256)) (r2 : m (s + 1) &&& 255 = nI (r / 256)) (h0 : m i &&& 255 = nI 200) :
    zq_Go (zq_M u m b c de hl a l cf true i s 0) (zq_M u m b c de hl a l cf true r (s + 2) 0) := by
  intro P hp
  obtain ⟨qec, qlc, qlv, qcp, qce, qdp, qng, qmu, qdv, qle, qsm, qnt, qsz, qpl, qfe, qso, qdg, qpr, qcn, qen, qfi, qfo, qnx, qs0, qs1, qs2, qs3, qs4, qs5, qcy, qzr, qip, qsp, qha, qsc, qel, qpn, qa1, qa2, qa3, qa4, qa5, qa6, qa7, qa8, qa9, qa10, qa11, qa12, qa13, qa14, qa15, qa16⟩ := u
  refine zq_sHigh i 200 1 0 h0 (by omega) (by decide +kernel) ?_
  intro Q hQ
  have e : r % 256 + 256 * (r / 256) = r := by omega
  refine br_f (by decide) (br_f (by decide) (br_f (by decide) (br_f (by decide) (br_f (by decide) (br_f (by decide) (br_f (by decide) (br_t rfl ?_)))))))
  refine zq_holds1 true ?_
  refine br_f (by decide) ?_
  refine zq_popWord s (r % 256) (r / 256) r1 r2 (by omega) (by omega) hs ?_
  rw [e]
  exact hQ _ hp
theorem zq_i_retZn (i : Nat) (hi : i < 2000) (h0 : m i &&& 255 = nI 200) :
    zq_Go (zq_M u m b c de hl a l cf false i s 0) (zq_M u m b c de hl a l cf false (i + 1) s 0) := by
  intro P hp
  obtain ⟨qec, qlc, qlv, qcp, qce, qdp, qng, qmu, qdv, qle, qsm, qnt, qsz, qpl, qfe, qso, qdg, qpr, qcn, qen, qfi, qfo, qnx, qs0, qs1, qs2, qs3, qs4, qs5, qcy, qzr, qip, qsp, qha, qsc, qel, qpn, qa1, qa2, qa3, qa4, qa5, qa6, qa7, qa8, qa9, qa10, qa11, qa12, qa13, qa14, qa15, qa16⟩ := u
  refine zq_sHigh i 200 1 0 h0 (by omega) (by decide +kernel) ?_
  intro Q hQ
  refine br_f (by decide) (br_f (by decide) (br_f (by decide) (br_f (by decide) (br_f (by decide) (br_f (by decide) (br_f (by decide) (br_t rfl ?_)))))))
  refine zq_holds1 false ?_
  refine br_t rfl ?_
  exact hQ _ hp
theorem zq_i_jp (i : Nat) (hi : i < 2000) {lo hi' : Nat} (w : Nat) (hw : lo + 256 * hi' = w) (h0 : m i &&& 255 = nI 195) (h1 : m (i + 1) &&& 255 = nI lo) (h2 : m (i + 1 + 1) &&& 255 = nI hi') (g1 : lo < 256) (g2 : hi' < 256) :
    zq_Go (zq_M u m b c de hl a l cf zf i s 0) (zq_M u m b c de hl a l cf zf w s 0) := by
  intro P hp
  obtain ⟨qec, qlc, qlv, qcp, qce, qdp, qng, qmu, qdv, qle, qsm, qnt, qsz, qpl, qfe, qso, qdg, qpr, qcn, qen, qfi, qfo, qnx, qs0, qs1, qs2, qs3, qs4, qs5, qcy, qzr, qip, qsp, qha, qsc, qel, qpn, qa1, qa2, qa3, qa4, qa5, qa6, qa7, qa8, qa9, qa10, qa11, qa12, qa13, qa14, qa15, qa16⟩ := u
  subst hw
  refine zq_sHigh i 195 0 3 h0 (by omega) (by decide +kernel) ?_
  intro Q hQ
  refine br_f (by decide) (br_f (by decide) (br_f (by decide) (br_t rfl ?_)))
  refine zq_nextWord (i + 1) lo hi' h1 h2 g1 g2 (by omega) ?_
  exact hQ _ hp
theorem zq_i_jpZ (i : Nat) (hi : i < 2000) {lo hi' : Nat} (w : Nat) (hw : lo + 256 * hi' = w) (h0 : m i &&& 255 = nI 202) (h1 : m (i + 1) &&& 255 = nI lo) (h2 : m (i + 1 + 1) &&& 255 = nI hi') (g1 : lo < 256) (g2 : hi' < 256) :
    zq_Go (zq_M u m b c de hl a l cf true i s 0) (zq_M u m b c de hl a l cf true w s 0) := by
  intro P hp
  obtain ⟨qec, qlc, qlv, qcp, qce, qdp, qng, qmu, qdv, qle, qsm, qnt, qsz, qpl, qfe, qso, qdg, qpr, qcn, qen, qfi, qfo, qnx, qs0, qs1, qs2, qs3, qs4, qs5, qcy, qzr, qip, qsp, qha, qsc, qel, qpn, qa1, qa2, qa3, qa4, qa5, qa6, qa7, qa8, qa9, qa10, qa11, qa12, qa13, qa14, qa15, qa16⟩ := u
  subst hw
  refine zq_sHigh i 202 1 2 h0 (by omega) (by decide +kernel) ?_
  intro Q hQ
  refine br_f (by decide) (br_f (by decide) (br_f (by decide) (br_f (by decide) (br_f (by decide) (br_f (by decide) (br_f (by decide) (br_f (by decide) (br_f (by decide) (br_t rfl ?_)))))))))
  refine zq_nextWord (i + 1) lo hi' h1 h2 g1 g2 (by omega) ?_
  refine zq_holds1 true ?_
  refine br_f (by decide) ?_
  exact hQ _ hp
theorem zq_i_jpZn (i : Nat) (hi : i < 2000) {lo hi' : Nat} (w : Nat) (hw : lo + 256 * hi' = w) (h0 : m i &&& 255 = nI 202) (h1 : m (i + 1) &&& 255 = nI lo) (h2 : m (i + 1 + 1) &&& 255 = nI hi') (g1 : lo < 256) (g2 : hi' < 256) :
    zq_Go (zq_M u m b c de hl a l cf false i s 0) (zq_M u m b c de hl a l cf false (i + 3) s 0) := by
  intro P hp
  obtain ⟨qec, qlc, qlv, qcp, qce, qdp, qng, qmu, qdv, qle, qsm, qnt, qsz, qpl, qfe, qso, qdg, qpr, qcn, qen, qfi, qfo, qnx, qs0, qs1, qs2, qs3, qs4, qs5, qcy, qzr, qip, qsp, qha, qsc, qel, qpn, qa1, qa2, qa3, qa4, qa5, qa6, qa7, qa8, qa9, qa10, qa11, qa12, qa13, qa14, qa15, qa16⟩ := u
  subst hw
  refine zq_sHigh i 202 1 2 h0 (by omega) (by decide +kernel) ?_
  intro Q hQ
  refine br_f (by decide) (br_f (by decide) (br_f (by decide) (br_f (by decide) (br_f (by decide) (br_f (by decide) (br_f (by decide) (br_f (by decide) (br_f (by decide) (br_t rfl ?_)))))))))
  refine zq_nextWord (i + 1) lo hi' h1 h2 g1 g2 (by omega) ?_
  refine zq_holds1 false ?_
  refine br_t rfl ?_
  exact hQ _ hp
theorem zq_i_jpNZ (i : Nat) (hi : i < 2000) {lo hi' : Nat} (w : Nat) (hw : lo + 256 * hi' = w) (h0 : m i &&& 255 = nI 194) (h1 : m (i + 1) &&& 255 = nI lo) (h2 : m (i + 1 + 1) &&& 255 = nI hi') (g1 : lo < 256) (g2 : hi' < 256) :
    zq_Go (zq_M u m b c de hl a l cf false i s 0) (zq_M u m b c de hl a l cf false w s 0) := by
  intro P hp
  obtain ⟨qec, qlc, qlv, qcp, qce, qdp, qng, qmu, qdv, qle, qsm, qnt, qsz, qpl, qfe, qso, qdg, qpr, qcn, qen, qfi, qfo, qnx, qs0, qs1, qs2, qs3, qs4, qs5, qcy, qzr, qip, qsp, qha, qsc, qel, qpn, qa1, qa2, qa3, qa4, qa5, qa6, qa7, qa8, qa9, qa10, qa11, qa12, qa13, qa14, qa15, qa16⟩ := u
  subst hw
  refine zq_sHigh i 194 0 2 h0 (by omega) (by decide +kernel) ?_
  intro Q hQ
  refine br_f (by decide) (br_f (by decide) (br_f (by decide) (br_f (by decide) (br_f (by decide) (br_f (by decide) (br_f (by decide) (br_f (by decide) (br_f (by decide) (br_t rfl ?_)))))))))
  refine zq_nextWord (i + 1) lo hi' h1 h2 g1 g2 (by omega) ?_
  refine zq_holds0 false ?_
  refine br_f (by decide) ?_
  exact hQ _ hp
theorem zq_i_jpNZn (i : Nat) (hi : i < 2000) {lo hi' : Nat} (w : Nat) (hw : lo + 256 * hi' = w) (h0 : m i &&& 255 = nI 194) (h1 : m (i + 1) &&& 255 = nI lo) (h2 : m (i + 1 + 1) &&& 255 = nI hi') (g1 : lo < 256) (g2 : hi' < 256) :
    zq_Go (zq_M u m b c de hl a l cf true i s 0) (zq_M u m b c de hl a l cf true (i + 3) s 0) := by
  intro P hp
  obtain ⟨qec, qlc, qlv, qcp, qce, qdp, qng, qmu, qdv, qle, qsm, qnt, qsz, qpl, qfe, qso, qdg, qpr, qcn, qen, qfi, qfo, qnx, qs0, qs1, qs2, qs3, qs4, qs5, qcy, qzr, qip, qsp, qha, qsc, qel, qpn, qa1, qa2, qa3, qa4, qa5, qa6, qa7, qa8, qa9, qa10, qa11, qa12, qa13, qa14, qa15, qa16⟩ := u
  subst hw
  refine zq_sHigh i 194 0 2 h0 (by omega) (by decide +kernel) ?_
  intro Q hQ
  refine br_f (by decide) (br_f (by decide) (br_f (by decide) (br_f (by decide) (br_f (by decide) (br_f (by decide) (br_f (by decide) (br_f (by decide) (br_f (by decide) (br_t rfl ?_)))))))))
  refine zq_nextWord (i + 1) lo hi' h1 h2 g1 g2 (by omega) ?_
  refine zq_holds0 true ?_
  refine br_t rfl ?_
  exact hQ _ hp
theorem zq_i_jpC (i : Nat) (hi : i < 2000) {lo hi' : Nat} (w : Nat) (hw : lo + 256 * hi' = w) (h0 : m i &&& 255 = nI 218) (h1 : m (i + 1) &&& 255 = nI lo) (h2 : m (i + 1 + 1) &&& 255 = nI hi') (g1 : lo < 256) (g2 : hi' < 256) :
    zq_Go (zq_M u m b c de hl a l true zf i s 0) (zq_M u m b c de hl a l true zf w s 0) := by
  intro P hp
  obtain ⟨qec, qlc, qlv, qcp, qce, qdp, qng, qmu, qdv, qle, qsm, qnt, qsz, qpl, qfe, qso, qdg, qpr, qcn, qen, qfi, qfo, qnx, qs0, qs1, qs2, qs3, qs4, qs5, qcy, qzr, qip, qsp, qha, qsc, qel, qpn, qa1, qa2, qa3, qa4, qa5, qa6, qa7, qa8, qa9, qa10, qa11, qa12, qa13, qa14, qa15, qa16⟩ := u
  subst hw
  refine zq_sHigh i 218 3 2 h0 (by omega) (by decide +kernel) ?_
  intro Q hQ
  refine br_f (by decide) (br_f (by decide) (br_f (by decide) (br_f (by decide) (br_f (by decide) (br_f (by decide) (br_f (by decide) (br_f (by decide) (br_f (by decide) (br_t rfl ?_)))))))))
  refine zq_nextWord (i + 1) lo hi' h1 h2 g1 g2 (by omega) ?_
  refine zq_holds3 true ?_
  refine br_f (by decide) ?_
  exact hQ _ hp
theorem zq_i_jpCn (i : Nat) (hi : i < 2000) {lo hi' : Nat} (w : Nat) (hw : lo + 256 * hi' = w) (h0 : m i &&& 255 = nI 218) (h1 : m (i + 1) &&& 255 = nI lo) (h2 : m (i + 1 + 1) &&& 255 = nI hi') (g1 : lo < 256) (g2 : hi' < 256) :
    zq_Go (zq_M u m b c de hl a l false zf i s 0) (zq_M u m b c de hl a l false zf (i + 3) s 0) := by
  intro P hp
  obtain ⟨qec, qlc, qlv, qcp, qce, qdp, qng, qmu, qdv, qle, qsm, qnt, qsz, qpl, qfe, qso, qdg, qpr, qcn, qen, qfi, qfo, qnx, qs0, qs1, qs2, qs3, qs4, qs5, qcy, qzr, qip, qsp, qha, qsc, qel, qpn, qa1, qa2, qa3, qa4, qa5, qa6, qa7, qa8, qa9, qa10, qa11, qa12, qa13, qa14, qa15, qa16⟩ := u
  subst hw
  refine zq_sHigh i 218 3 2 h0 (by omega) (by decide +kernel) ?_
  intro Q hQ
  refine br_f (by decide) (br_f (by decide) (br_f (by decide) (br_f (by decide) (br_f (by decide) (br_f (by decide) (br_f (by decide) (br_f (by decide) (br_f (by decide) (br_t rfl ?_)))))))))
  refine zq_nextWord (i + 1) lo hi' h1 h2 g1 g2 (by omega) ?_
  refine zq_holds3 false ?_
  refine br_t rfl ?_
  exact hQ _ hp
theorem zq_i_orA (i : Nat) (hi : i < 2000) (ha : a < 256) (h0 : m i &&& 255 = nI 183) :
    zq_Go (zq_M u m b c de hl a l cf zf i s 0) (zq_M u m b c de hl a l false (decide (a = 0)) (i + 1) s 0) := by
  intro P hp
  obtain ⟨qec, qlc, qlv, qcp, qce, qdp, qng, qmu, qdv, qle, qsm, qnt, qsz, qpl, qfe, qso, qdg, qpr, qcn, qen, qfi, qfo, qnx, qs0, qs1, qs2, qs3, qs4, qs5, qcy, qzr, qip, qsp, qha, qsc, qel, qpn, qa1, qa2, qa3, qa4, qa5, qa6, qa7, qa8, qa9, qa10, qa11, qa12, qa13, qa14, qa15, qa16⟩ := u
  refine zq_sAlu i 183 6 7 h0 (by omega) (by decide +kernel) ?_
  intro Q hQ
  have e : upd (zq_g b c de hl a) 7 (nI a) = zq_g b c de hl a := zq_gA b c de hl a a
  refine zq_get 7 rfl (by decide) (by decide) ?_
  refine nm_e ?_
  refine br_t (by decide) (br_f (by decide) (br_f (by decide) (br_f (by decide) (br_f (by decide) (?_)))))
  unfold wX_calculate_104
  refine zq_c106 a (show nI a ||| nI a = nI a by rw [zq_or, Nat.or_self]) ha (by decide) ?_
  rw [e]
  exact hQ _ hp
theorem zq_i_and128 (i : Nat) (hi : i < 2000) (ha : a < 256) (h0 : m i &&& 255 = nI 230) (h1 : m (i + 1) &&& 255 = nI 128) :
    zq_Go (zq_M u m b c de hl a l cf zf i s 0) (zq_M u m b c de hl (if a < 128 then 0 else 128) l false (decide ((if a < 128 then 0 else 128) = 0)) (i + 2) s 0) := by
  intro P hp
  obtain ⟨qec, qlc, qlv, qcp, qce, qdp, qng, qmu, qdv, qle, qsm, qnt, qsz, qpl, qfe, qso, qdg, qpr, qcn, qen, qfi, qfo, qnx, qs0, qs1, qs2, qs3, qs4, qs5, qcy, qzr, qip, qsp, qha, qsc, qel, qpn, qa1, qa2, qa3, qa4, qa5, qa6, qa7, qa8, qa9, qa10, qa11, qa12, qa13, qa14, qa15, qa16⟩ := u
  refine zq_sHigh i 230 4 6 h0 (by omega) (by decide +kernel) ?_
  intro Q hQ
  have e := zq_gA b c de hl a (if a < 128 then 0 else 128)
  refine br_f (by decide) (br_f (by decide) (br_f (by decide) (br_f (by decide) (br_f (by decide) (br_f (by decide) (br_f (by decide) (br_f (by decide) (br_f (by decide) (br_f (by decide) (br_f (by decide) (br_t rfl ?_)))))))))))
  refine zq_next (i + 1) h1 (by omega) ?_
  refine nm_e ?_
  refine br_t (by decide) (br_f (by decide) (br_f (by decide) (br_t rfl ?_)))
  unfold wX_calculate_104
  refine zq_c106 (if a < 128 then 0 else 128) (zq_a128 a ha) (by split <;> decide) (by decide) ?_
  rw [e]
  exact hQ _ hp
theorem zq_i_addN (i : Nat) (hi : i < 2000) {n : Nat} (ha : a + n < 256) (h0 : m i &&& 255 = nI 198) (h1 : m (i + 1) &&& 255 = nI n) :
    zq_Go (zq_M u m b c de hl a l cf zf i s 0) (zq_M u m b c de hl (a + n) l false (decide (a + n = 0)) (i + 2) s 0) := by
  intro P hp
  obtain ⟨qec, qlc, qlv, qcp, qce, qdp, qng, qmu, qdv, qle, qsm, qnt, qsz, qpl, qfe, qso, qdg, qpr, qcn, qen, qfi, qfo, qnx, qs0, qs1, qs2, qs3, qs4, qs5, qcy, qzr, qip, qsp, qha, qsc, qel, qpn, qa1, qa2, qa3, qa4, qa5, qa6, qa7, qa8, qa9, qa10, qa11, qa12, qa13, qa14, qa15, qa16⟩ := u
  refine zq_sHigh i 198 0 6 h0 (by omega) (by decide +kernel) ?_
  intro Q hQ
  have e := zq_gA b c de hl a (a + n)
  have e2 : (nI a + nI n) + 0 = nI (a + n) := by rw [Int32.add_zero, nI_add]
  refine br_f (by decide) (br_f (by decide) (br_f (by decide) (br_f (by decide) (br_f (by decide) (br_f (by decide) (br_f (by decide) (br_f (by decide) (br_f (by decide) (br_f (by decide) (br_f (by decide) (br_t rfl ?_)))))))))))
  refine zq_next (i + 1) h1 (by omega) ?_
  refine nm_e ?_
  refine br_f (by decide) (br_f (by decide) ?_)
  refine nm_r e2 ?_
  refine zq_c106 (a + n) rfl ha (by decide) ?_
  rw [e]
  exact hQ _ hp
theorem zq_i_cpN (i : Nat) (hi : i < 2000) {n : Nat} (ha : a < 256) (hn : n ≤ a) (h0 : m i &&& 255 = nI 254) (h1 : m (i + 1) &&& 255 = nI n) :
    zq_Go (zq_M u m b c de hl a l cf zf i s 0) (zq_M u m b c de hl a l false (decide (a - n = 0)) (i + 2) s 0) := by
  intro P hp
  obtain ⟨qec, qlc, qlv, qcp, qce, qdp, qng, qmu, qdv, qle, qsm, qnt, qsz, qpl, qfe, qso, qdg, qpr, qcn, qen, qfi, qfo, qnx, qs0, qs1, qs2, qs3, qs4, qs5, qcy, qzr, qip, qsp, qha, qsc, qel, qpn, qa1, qa2, qa3, qa4, qa5, qa6, qa7, qa8, qa9, qa10, qa11, qa12, qa13, qa14, qa15, qa16⟩ := u
  refine zq_sHigh i 254 7 6 h0 (by omega) (by decide +kernel) ?_
  intro Q hQ
  have e2 : (nI a - nI n) - 0 = nI (a - n) := by rw [Int32.sub_zero, pk_sub hn]
  refine br_f (by decide) (br_f (by decide) (br_f (by decide) (br_f (by decide) (br_f (by decide) (br_f (by decide) (br_f (by decide) (br_f (by decide) (br_f (by decide) (br_f (by decide) (br_f (by decide) (br_t rfl ?_)))))))))))
  refine zq_next (i + 1) h1 (by omega) ?_
  refine nm_e ?_
  refine br_t (by decide) (br_f (by decide) (br_t rfl (br_f (by decide) ?_)))
  refine nm_r e2 ?_
  refine zq_c106c (a - n) rfl (by omega) ?_
  exact hQ _ hp
theorem zq_i_sbc (i : Nat) (hi : i < 2000) (hh : hl < 65536) (hd : de < 65536) (hle : de ≤ hl) (h0 : m i &&& 255 = nI 237) (h1 : m (i + 1) &&& 255 = nI 82) :
    zq_Go (zq_M u m b c de hl a l false zf i s 0) (zq_M u m b c de (hl - de) a l false (decide (hl - de = 0)) (i + 2) s 0) := by
  intro P hp
  obtain ⟨qec, qlc, qlv, qcp, qce, qdp, qng, qmu, qdv, qle, qsm, qnt, qsz, qpl, qfe, qso, qdg, qpr, qcn, qen, qfi, qfo, qnx, qs0, qs1, qs2, qs3, qs4, qs5, qcy, qzr, qip, qsp, qha, qsc, qel, qpn, qa1, qa2, qa3, qa4, qa5, qa6, qa7, qa8, qa9, qa10, qa11, qa12, qa13, qa14, qa15, qa16⟩ := u
  refine zq_sHigh i 237 5 5 h0 (by omega) (by decide +kernel) ?_
  intro Q hQ
  have e : nI hl - nI de = nI (hl - de) := pk_sub hle
  refine br_t rfl ?_
  unfold wpX_stepExtended
  refine zq_next (i + 1) h1 (by omega) ?_
  refine zq_pairDE (by decide) hd ?_
  refine br_t rfl ?_
  refine nm_r (show nI de + 0 = nI de from Int32.add_zero _) ?_
  refine br_t (by decide) ?_
  refine zq_pairHL rfl hh ?_
  rw [e]
  refine br_f (nI_pos (by omega)) (br_t (show nI (hl - de) ≤ nI 65535 from nI_le (by omega) (by decide)) ?_)
  refine zq_x70 (hl - de) false (by rw [zq_and65535 (by omega), Nat.mod_eq_of_lt (by omega)]) (by omega) ?_
  exact hQ _ hp
theorem zq_i_sbcC (i : Nat) (hi : i < 2000) (hh : hl < 65536) (hd : de < 65536) (hlt : hl < de) (h0 : m i &&& 255 = nI 237) (h1 : m (i + 1) &&& 255 = nI 82) :
    zq_Go (zq_M u m b c de hl a l false zf i s 0) (zq_M u m b c de (65536 + hl - de) a l true (decide (65536 + hl - de = 0)) (i + 2) s 0) := by
  intro P hp
  obtain ⟨qec, qlc, qlv, qcp, qce, qdp, qng, qmu, qdv, qle, qsm, qnt, qsz, qpl, qfe, qso, qdg, qpr, qcn, qen, qfi, qfo, qnx, qs0, qs1, qs2, qs3, qs4, qs5, qcy, qzr, qip, qsp, qha, qsc, qel, qpn, qa1, qa2, qa3, qa4, qa5, qa6, qa7, qa8, qa9, qa10, qa11, qa12, qa13, qa14, qa15, qa16⟩ := u
  refine zq_sHigh i 237 5 5 h0 (by omega) (by decide +kernel) ?_
  intro Q hQ
  refine br_t rfl ?_
  unfold wpX_stepExtended
  refine zq_next (i + 1) h1 (by omega) ?_
  refine zq_pairDE (by decide) hd ?_
  refine br_t rfl ?_
  refine nm_r (show nI de + 0 = nI de from Int32.add_zero _) ?_
  refine br_t (by decide) ?_
  refine zq_pairHL rfl hh ?_
  refine br_t (pk_sneg (by omega) hlt) ?_
  unfold wX_stepExtended_65
  refine zq_x70 (65536 + hl - de) true (zq_neg16 hd hlt) (by omega) ?_
  exact hQ _ hp
theorem zq_i_incHL (i : Nat) (hi : i < 2000) (hh : hl < 65536) (h0 : m i &&& 255 = nI 35) :
    zq_Go (zq_M u m b c de hl a l cf zf i s 0) (zq_M u m b c de ((hl + 1) % 65536) a l cf zf (i + 1) s 0) := by
  intro P hp
  obtain ⟨qec, qlc, qlv, qcp, qce, qdp, qng, qmu, qdv, qle, qsm, qnt, qsz, qpl, qfe, qso, qdg, qpr, qcn, qen, qfi, qfo, qnx, qs0, qs1, qs2, qs3, qs4, qs5, qcy, qzr, qip, qsp, qha, qsc, qel, qpn, qa1, qa2, qa3, qa4, qa5, qa6, qa7, qa8, qa9, qa10, qa11, qa12, qa13, qa14, qa15, qa16⟩ := u
  refine zq_sLow i 35 4 3 h0 (by omega) (by decide +kernel) ?_
  intro Q hQ
  refine br_f (by decide) (br_f (by decide) (br_t rfl ?_))
  refine zq_pairHL (by decide) hh ?_
  refine br_t (by decide) ?_
  refine nm_r (nI_1 hl) ?_
  refine zq_setHL ((hl + 1) % 65536) (by decide) (zq_and65535 (by omega)) (by omega) ?_
  exact hQ _ hp
theorem zq_i_addHLDE (i : Nat) (hi : i < 2000) (hh : hl < 65536) (hd : de < 65536) (h0 : m i &&& 255 = nI 25) :
    zq_Go (zq_M u m b c de hl a l cf zf i s 0) (zq_M u m b c de ((hl + de) % 65536) a l (decide (65535 < hl + de)) zf (i + 1) s 0) := by
  intro P hp
  obtain ⟨qec, qlc, qlv, qcp, qce, qdp, qng, qmu, qdv, qle, qsm, qnt, qsz, qpl, qfe, qso, qdg, qpr, qcn, qen, qfi, qfo, qnx, qs0, qs1, qs2, qs3, qs4, qs5, qcy, qzr, qip, qsp, qha, qsc, qel, qpn, qa1, qa2, qa3, qa4, qa5, qa6, qa7, qa8, qa9, qa10, qa11, qa12, qa13, qa14, qa15, qa16⟩ := u
  refine zq_sLow i 25 3 1 h0 (by omega) (by decide +kernel) ?_
  intro Q hQ
  refine br_t rfl (br_f (by decide) (br_t rfl ?_))
  unfold wpX_addPair
  refine zq_pairHL rfl hh ?_
  refine zq_pairDE (by decide) hd ?_
  refine nm_r (nI_add hl de) ?_
  by_cases h : 65535 < hl + de
  · rw [decide_eq_true h] at hp
    refine br_f (show ¬ nI (hl + de) ≤ nI 65535 from nI_ge h (by omega)) ⟨rfl, rfl, ?_⟩
    refine zq_setHL ((hl + de) % 65536) rfl (zq_and65535 (by omega)) (by omega) ?_
    exact hQ _ hp
  · rw [decide_eq_false h] at hp
    refine br_t (show nI (hl + de) ≤ nI 65535 from nI_le (by omega) (by decide)) ⟨rfl, rfl, ?_⟩
    refine zq_setHL ((hl + de) % 65536) rfl (zq_and65535 (by omega)) (by omega) ?_
    exact hQ _ hp
theorem zq_i_incC (i : Nat) (hi : i < 2000) (hc : c + 1 < 256) (h0 : m i &&& 255 = nI 12) :
    zq_Go (zq_M u m b c de hl a l cf zf i s 0) (zq_M u m b (c + 1) de hl a l cf false (i + 1) s 0) := by
  intro P hp
  obtain ⟨qec, qlc, qlv, qcp, qce, qdp, qng, qmu, qdv, qle, qsm, qnt, qsz, qpl, qfe, qso, qdg, qpr, qcn, qen, qfi, qfo, qnx, qs0, qs1, qs2, qs3, qs4, qs5, qcy, qzr, qip, qsp, qha, qsc, qel, qpn, qa1, qa2, qa3, qa4, qa5, qa6, qa7, qa8, qa9, qa10, qa11, qa12, qa13, qa14, qa15, qa16⟩ := u
  refine zq_sLow i 12 1 4 h0 (by omega) (by decide +kernel) ?_
  intro Q hQ
  have e1 : (nI c + 1) &&& 255 = nI (c + 1) := by rw [nI_1, zq_and255 (by omega), Nat.mod_eq_of_lt hc]
  have e2 : upd (zq_g b c de hl a) 1 (nI (c + 1) &&& 255) = zq_g b (c + 1) de hl a := by rw [zq_and255 (by omega), Nat.mod_eq_of_lt hc, zq_gC]
  refine br_f (by decide) (br_f (by decide) (br_f (by decide) (br_t rfl ?_)))
  unfold wX_stepLow_96
  refine zq_get 1 rfl (by decide) (by decide) ?_
  refine br_t rfl ?_
  refine nm_r e1 ?_
  refine zq_set 1 rfl (by decide) (by decide) ?_
  refine br_f (nI_ne0 (by omega) (by omega)) ?_
  rw [e2]
  exact hQ _ hp
theorem zq_i_AH (i : Nat) (hi : i < 2000) (hh : hl < 65536) (h0 : m i &&& 255 = nI 124) :
    zq_Go (zq_M u m b c de hl a l cf zf i s 0) (zq_M u m b c de hl (hl / 256) l cf zf (i + 1) s 0) := by
  intro P hp
  obtain ⟨qec, qlc, qlv, qcp, qce, qdp, qng, qmu, qdv, qle, qsm, qnt, qsz, qpl, qfe, qso, qdg, qpr, qcn, qen, qfi, qfo, qnx, qs0, qs1, qs2, qs3, qs4, qs5, qcy, qzr, qip, qsp, qha, qsc, qel, qpn, qa1, qa2, qa3, qa4, qa5, qa6, qa7, qa8, qa9, qa10, qa11, qa12, qa13, qa14, qa15, qa16⟩ := u
  refine zq_sMov i 124 7 4 h0 (by omega) (by decide +kernel) ?_
  intro Q hQ
  have e0 : nI (hl / 256) &&& 255 = nI (hl / 256) := by rw [zq_and255 (by omega), Nat.mod_eq_of_lt (by omega)]
  have e := zq_gA b c de hl a (hl / 256)
  refine zq_get 4 rfl (by decide) (by decide) ?_
  refine zq_set 7 rfl (by decide) (by decide) ?_
  rw [show zq_g b c de hl a 4 = nI (hl / 256) from rfl, e0, e]
  exact hQ _ hp
theorem zq_i_AL (i : Nat) (hi : i < 2000) (h0 : m i &&& 255 = nI 125) :
    zq_Go (zq_M u m b c de hl a l cf zf i s 0) (zq_M u m b c de hl (hl % 256) l cf zf (i + 1) s 0) := by
  intro P hp
  obtain ⟨qec, qlc, qlv, qcp, qce, qdp, qng, qmu, qdv, qle, qsm, qnt, qsz, qpl, qfe, qso, qdg, qpr, qcn, qen, qfi, qfo, qnx, qs0, qs1, qs2, qs3, qs4, qs5, qcy, qzr, qip, qsp, qha, qsc, qel, qpn, qa1, qa2, qa3, qa4, qa5, qa6, qa7, qa8, qa9, qa10, qa11, qa12, qa13, qa14, qa15, qa16⟩ := u
  refine zq_sMov i 125 7 5 h0 (by omega) (by decide +kernel) ?_
  intro Q hQ
  have e0 : nI (hl % 256) &&& 255 = nI (hl % 256) := by rw [zq_and255 (by omega), Nat.mod_eq_of_lt (by omega)]
  have e := zq_gA b c de hl a (hl % 256)
  refine zq_get 5 rfl (by decide) (by decide) ?_
  refine zq_set 7 rfl (by decide) (by decide) ?_
  rw [show zq_g b c de hl a 5 = nI (hl % 256) from rfl, e0, e]
  exact hQ _ hp
theorem zq_i_AC (i : Nat) (hi : i < 2000) (hh : c < 256) (h0 : m i &&& 255 = nI 121) :
    zq_Go (zq_M u m b c de hl a l cf zf i s 0) (zq_M u m b c de hl c l cf zf (i + 1) s 0) := by
  intro P hp
  obtain ⟨qec, qlc, qlv, qcp, qce, qdp, qng, qmu, qdv, qle, qsm, qnt, qsz, qpl, qfe, qso, qdg, qpr, qcn, qen, qfi, qfo, qnx, qs0, qs1, qs2, qs3, qs4, qs5, qcy, qzr, qip, qsp, qha, qsc, qel, qpn, qa1, qa2, qa3, qa4, qa5, qa6, qa7, qa8, qa9, qa10, qa11, qa12, qa13, qa14, qa15, qa16⟩ := u
  refine zq_sMov i 121 7 1 h0 (by omega) (by decide +kernel) ?_
  intro Q hQ
  have e0 : nI (c) &&& 255 = nI (c) := by rw [zq_and255 (by omega), Nat.mod_eq_of_lt (by omega)]
  have e := zq_gA b c de hl a c
  refine zq_get 1 rfl (by decide) (by decide) ?_
  refine zq_set 7 rfl (by decide) (by decide) ?_
  rw [show zq_g b c de hl a 1 = nI (c) from rfl, e0, e]
  exact hQ _ hp
theorem zq_i_AB (i : Nat) (hi : i < 2000) (hh : b < 256) (h0 : m i &&& 255 = nI 120) :
    zq_Go (zq_M u m b c de hl a l cf zf i s 0) (zq_M u m b c de hl b l cf zf (i + 1) s 0) := by
  intro P hp
  obtain ⟨qec, qlc, qlv, qcp, qce, qdp, qng, qmu, qdv, qle, qsm, qnt, qsz, qpl, qfe, qso, qdg, qpr, qcn, qen, qfi, qfo, qnx, qs0, qs1, qs2, qs3, qs4, qs5, qcy, qzr, qip, qsp, qha, qsc, qel, qpn, qa1, qa2, qa3, qa4, qa5, qa6, qa7, qa8, qa9, qa10, qa11, qa12, qa13, qa14, qa15, qa16⟩ := u
  refine zq_sMov i 120 7 0 h0 (by omega) (by decide +kernel) ?_
  intro Q hQ
  have e0 : nI (b) &&& 255 = nI (b) := by rw [zq_and255 (by omega), Nat.mod_eq_of_lt (by omega)]
  have e := zq_gA b c de hl a b
  refine zq_get 0 rfl (by decide) (by decide) ?_
  refine zq_set 7 rfl (by decide) (by decide) ?_
  rw [show zq_g b c de hl a 0 = nI (b) from rfl, e0, e]
  exact hQ _ hp
theorem zq_i_HA (i : Nat) (hi : i < 2000) (hh : a < 256) (h0 : m i &&& 255 = nI 103) :
    zq_Go (zq_M u m b c de hl a l cf zf i s 0) (zq_M u m b c de (a * 256 + hl % 256) a l cf zf (i + 1) s 0) := by
  intro P hp
  obtain ⟨qec, qlc, qlv, qcp, qce, qdp, qng, qmu, qdv, qle, qsm, qnt, qsz, qpl, qfe, qso, qdg, qpr, qcn, qen, qfi, qfo, qnx, qs0, qs1, qs2, qs3, qs4, qs5, qcy, qzr, qip, qsp, qha, qsc, qel, qpn, qa1, qa2, qa3, qa4, qa5, qa6, qa7, qa8, qa9, qa10, qa11, qa12, qa13, qa14, qa15, qa16⟩ := u
  refine zq_sMov i 103 4 7 h0 (by omega) (by decide +kernel) ?_
  intro Q hQ
  have e0 : nI (a) &&& 255 = nI (a) := by rw [zq_and255 (by omega), Nat.mod_eq_of_lt (by omega)]
  have e := zq_gH b c de hl a a hh
  refine zq_get 7 rfl (by decide) (by decide) ?_
  refine zq_set 4 rfl (by decide) (by decide) ?_
  rw [show zq_g b c de hl a 7 = nI (a) from rfl, e0, e]
  exact hQ _ hp
theorem zq_i_LA (i : Nat) (hi : i < 2000) (hh : a < 256) (h0 : m i &&& 255 = nI 111) :
    zq_Go (zq_M u m b c de hl a l cf zf i s 0) (zq_M u m b c de (hl / 256 * 256 + a) a l cf zf (i + 1) s 0) := by
  intro P hp
  obtain ⟨qec, qlc, qlv, qcp, qce, qdp, qng, qmu, qdv, qle, qsm, qnt, qsz, qpl, qfe, qso, qdg, qpr, qcn, qen, qfi, qfo, qnx, qs0, qs1, qs2, qs3, qs4, qs5, qcy, qzr, qip, qsp, qha, qsc, qel, qpn, qa1, qa2, qa3, qa4, qa5, qa6, qa7, qa8, qa9, qa10, qa11, qa12, qa13, qa14, qa15, qa16⟩ := u
  refine zq_sMov i 111 5 7 h0 (by omega) (by decide +kernel) ?_
  intro Q hQ
  have e0 : nI (a) &&& 255 = nI (a) := by rw [zq_and255 (by omega), Nat.mod_eq_of_lt (by omega)]
  have e := zq_gL b c de hl a a hh
  refine zq_get 7 rfl (by decide) (by decide) ?_
  refine zq_set 5 rfl (by decide) (by decide) ?_
  rw [show zq_g b c de hl a 7 = nI (a) from rfl, e0, e]
  exact hQ _ hp
theorem zq_i_out (i : Nat) (hi : i < 2000) (ha : a < 128) (hn : l.length < 60) (h0 : m i &&& 255 = nI 211) :
    zq_Go (zq_M u m b c de hl a l cf zf i s 0) (zq_M u m b c de hl a (l ++ [a]) cf zf (i + 2) s 0) := by
  intro P hp
  obtain ⟨qec, qlc, qlv, qcp, qce, qdp, qng, qmu, qdv, qle, qsm, qnt, qsz, qpl, qfe, qso, qdg, qpr, qcn, qen, qfi, qfo, qnx, qs0, qs1, qs2, qs3, qs4, qs5, qcy, qzr, qip, qsp, qha, qsc, qel, qpn, qa1, qa2, qa3, qa4, qa5, qa6, qa7, qa8, qa9, qa10, qa11, qa12, qa13, qa14, qa15, qa16⟩ := u
  refine zq_sHigh i 211 2 3 h0 (by omega) (by decide +kernel) ?_
  intro Q hQ
  refine br_f (by decide) (br_f (by decide) (br_f (by decide) (br_f (by decide) (br_f (by decide) (br_f (by decide) (br_t rfl ?_))))))
  refine zq_next (i + 1) rfl (by omega) ?_
  refine zq_print (c := a) rfl hn ha ?_
  exact hQ _ hp
theorem zq_i_cpl (i : Nat) (hi : i < 2000) (ha : a < 256) (h0 : m i &&& 255 = nI 47) :
    zq_Go (zq_M u m b c de hl a l cf zf i s 0) (zq_M u m b c de hl (255 - a) l cf zf (i + 1) s 0) := by
  intro P hp
  obtain ⟨qec, qlc, qlv, qcp, qce, qdp, qng, qmu, qdv, qle, qsm, qnt, qsz, qpl, qfe, qso, qdg, qpr, qcn, qen, qfi, qfo, qnx, qs0, qs1, qs2, qs3, qs4, qs5, qcy, qzr, qip, qsp, qha, qsc, qel, qpn, qa1, qa2, qa3, qa4, qa5, qa6, qa7, qa8, qa9, qa10, qa11, qa12, qa13, qa14, qa15, qa16⟩ := u
  refine zq_sLow i 47 5 7 h0 (by omega) (by decide +kernel) ?_
  intro Q hQ
  have e : upd (zq_g b c de hl a) 7 (nI a ^^^ 255) = zq_g b c de hl (255 - a) := by rw [zq_x255 a ha, zq_gA]
  refine br_f (by decide) (br_f (by decide) (br_f (by decide) (br_f (by decide) (br_f (by decide) (br_f (by decide) (br_t rfl ?_))))))
  refine nm_r e ?_
  exact hQ _ hp
theorem zq_i_halt (i : Nat) (hi : i < 2000) (h0 : m i &&& 255 = nI 118) :
    zq_Go (zq_M u m b c de hl a l cf zf i s 0) (zq_M u m b c de hl a l cf zf (i + 1) s 1) := by
  intro P hp
  obtain ⟨qec, qlc, qlv, qcp, qce, qdp, qng, qmu, qdv, qle, qsm, qnt, qsz, qpl, qfe, qso, qdg, qpr, qcn, qen, qfi, qfo, qnx, qs0, qs1, qs2, qs3, qs4, qs5, qcy, qzr, qip, qsp, qha, qsc, qel, qpn, qa1, qa2, qa3, qa4, qa5, qa6, qa7, qa8, qa9, qa10, qa11, qa12, qa13, qa14, qa15, qa16⟩ := u
  refine zq_sHalt i h0 (by omega) ?_
  exact hp
end
def zq_R (pst : Int32 → St2 → Prop) (n : Nat) (u : St2) : Prop := match u with
  | (ec, lc, lv, cp, ce, dp, ng, mu, dv, le, sm, nt, sz, pl, fe, so, dg, pr, cn, en, fi, fo, nx, s0, s1, s2, s3, s4, s5, cy, zr, ip, sp, ha, sc, el, pn, a1, a2, a3, a4, a5, a6, a7, a8, a9, a10, a11, a12, a13, a14, a15, a16) => wX_run_71 pst n ec lc lv cp ce dp ng mu dv le sm nt sz pl fe so dg pr cn en fi fo nx s0 s1 s2 s3 s4 s5 cy zr ip sp ha sc el pn a1 a2 a3 a4 a5 a6 a7 a8 a9 a10 a11 a12 a13 a14 a15 a16
def zq_RN (pst : Int32 → St2 → Prop) (u : St2) : Prop := ∃ n, zq_R pst n u
def zq_N (u : St2) (st : Nat) (l : List Nat) : St2 := match u with
  | (ec, lc, lv, cp, ce, dp, ng, mu, dv, le, sm, nt, sz, pl, fe, so, dg, pr, cn, en, fi, fo, nx, s0, s1, s2, s3, s4, s5, cy, zr, ip, sp, ha, sc, el, pn, a1, a2, a3, a4, a5, a6, a7, a8, a9, a10, a11, a12, a13, a14, a15, a16) => (ec, lc, lv, cp, ce, dp, ng, mu, dv, le, sm, nt, sz, pl, fe, so, dg, pr, cn, en, fi, fo, nx, s0, s1, s2, s3, s4, s5, cy, zr, ip, sp, ha, nI st, el, nI l.length, a1, a2, a3, a4, a5, a6, a7, a8, a9, a10, a11, a12, a13, a14, a15, zq_tx l)
theorem zq_go {pst : Int32 → St2 → Prop} {u v : St2} {m : Nat → Int32} {b c de hl a s i : Nat} {l : List Nat} {cf zf : Bool} (h : zq_Go (zq_M u m b c de hl a l cf zf i s 0) v) (hr : zq_RN pst v) : zq_RN pst (zq_M u m b c de hl a l cf zf i s 0) := by
  obtain ⟨qec, qlc, qlv, qcp, qce, qdp, qng, qmu, qdv, qle, qsm, qnt, qsz, qpl, qfe, qso, qdg, qpr, qcn, qen, qfi, qfo, qnx, qs0, qs1, qs2, qs3, qs4, qs5, qcy, qzr, qip, qsp, qha, qsc, qel, qpn, qa1, qa2, qa3, qa4, qa5, qa6, qa7, qa8, qa9, qa10, qa11, qa12, qa13, qa14, qa15, qa16⟩ := u
  obtain ⟨pec, plc, plv, pcp, pce, pdp, png, pmu, pdv, ple, psm, pnt, psz, ppl, pfe, pso, pdg, ppr, pcn, pen, pfi, pfo, pnx, ps0, ps1, ps2, ps3, ps4, ps5, pcy, pzr, pip, psp, pha, psc, pel, ppn, pa1, pa2, pa3, pa4, pa5, pa6, pa7, pa8, pa9, pa10, pa11, pa12, pa13, pa14, pa15, pa16⟩ := v
  obtain ⟨n, hn⟩ := hr
  refine ⟨n + 1, br_t rfl (h _ ?_)⟩
  exact hn
theorem zq_end {pst : Int32 → St2 → Prop} {u : St2} {m : Nat → Int32} {b c de hl a s i x y : Nat} {l : List Nat} {cf zf : Bool} (hx : m 48 &&& 255 = nI x) (hy : m 49 &&& 255 = nI y) (gx : x < 256) (gy : y < 256) (hp : ∀ v, pst (nI a) (zq_N v (x + 256 * y) l)) : zq_RN pst (zq_M u m b c de hl a l cf zf i s 1) := by
  obtain ⟨qec, qlc, qlv, qcp, qce, qdp, qng, qmu, qdv, qle, qsm, qnt, qsz, qpl, qfe, qso, qdg, qpr, qcn, qen, qfi, qfo, qnx, qs0, qs1, qs2, qs3, qs4, qs5, qcy, qzr, qip, qsp, qha, qsc, qel, qpn, qa1, qa2, qa3, qa4, qa5, qa6, qa7, qa8, qa9, qa10, qa11, qa12, qa13, qa14, qa15, qa16⟩ := u
  refine ⟨1, br_f (by decide) ?_⟩
  refine zq_wordAt 48 x y rfl hx hy gx gy (by decide) ?_
  refine zq_byteAt 50 rfl (by decide) ?_
  exact hp (qec, qlc, qlv, qcp, qce, qdp, qng, qmu, qdv, qle, qsm, qnt, qsz, qpl, qfe, qso, qdg, qpr, qcn, qen, qfi, qfo, qnx, qs0, qs1, qs2, qs3, qs4, qs5, zq_f cf, zq_f zf, nI i, nI s, 1, 0, m 50 &&& 255, qpn, qa1, qa2, qa3, qa4, qa5, qa6, qa7, qa8, qa9, qa10, qa11, qa12, qa13, m, zq_g b c de hl a, qa16)
end
section
/-! the walk: the routines that a run takes -/
theorem zq_yNeg {m : Nat → Int32} (h : zq_C m) : m 98 &&& 255 = nI 124 ∧ m 99 &&& 255 = nI 47 ∧ m 100 &&& 255 = nI 103 ∧ m 101 &&& 255 = nI 125 ∧ m 102 &&& 255 = nI 47 ∧ m 103 &&& 255 = nI 111 ∧ m 104 &&& 255 = nI 35 ∧ m 105 &&& 255 = nI 201 ∧ True := h.1
theorem zq_yDig {m : Nat → Int32} (h : zq_C m) : m 273 &&& 255 = nI 14 ∧ m 274 &&& 255 = nI 48 ∧ m 275 &&& 255 = nI 183 ∧ m 276 &&& 255 = nI 237 ∧ m 277 &&& 255 = nI 82 ∧ m 278 &&& 255 = nI 218 ∧ m 279 &&& 255 = nI 29 ∧ m 280 &&& 255 = nI 1 ∧ m 281 &&& 255 = nI 12 ∧ m 282 &&& 255 = nI 195 ∧ m 283 &&& 255 = nI 19 ∧ m 284 &&& 255 = nI 1 ∧ m 285 &&& 255 = nI 25 ∧ m 286 &&& 255 = nI 121 ∧ m 287 &&& 255 = nI 254 ∧ m 288 &&& 255 = nI 48 ∧ m 289 &&& 255 = nI 194 ∧ m 290 &&& 255 = nI 39 ∧ m 291 &&& 255 = nI 1 ∧ m 292 &&& 255 = nI 120 ∧ m 293 &&& 255 = nI 183 ∧ m 294 &&& 255 = nI 200 ∧ m 295 &&& 255 = nI 6 ∧ m 296 &&& 255 = nI 1 ∧ m 297 &&& 255 = nI 121 ∧ m 298 &&& 255 = nI 211 ∧ m 299 &&& 255 = nI 1 ∧ m 300 &&& 255 = nI 201 ∧ True := h.2.1
theorem zq_yPrn {m : Nat → Int32} (h : zq_C m) : m 301 &&& 255 = nI 124 ∧ m 302 &&& 255 = nI 230 ∧ m 303 &&& 255 = nI 128 ∧ m 304 &&& 255 = nI 202 ∧ m 305 &&& 255 = nI 58 ∧ m 306 &&& 255 = nI 1 ∧ m 307 &&& 255 = nI 62 ∧ m 308 &&& 255 = nI 45 ∧ m 309 &&& 255 = nI 211 ∧ m 310 &&& 255 = nI 1 ∧ m 311 &&& 255 = nI 205 ∧ m 312 &&& 255 = nI 98 ∧ m 313 &&& 255 = nI 0 ∧ m 314 &&& 255 = nI 6 ∧ m 315 &&& 255 = nI 0 ∧ m 316 &&& 255 = nI 17 ∧ m 317 &&& 255 = nI 16 ∧ m 318 &&& 255 = nI 39 ∧ m 319 &&& 255 = nI 205 ∧ m 320 &&& 255 = nI 17 ∧ m 321 &&& 255 = nI 1 ∧ m 322 &&& 255 = nI 17 ∧ m 323 &&& 255 = nI 232 ∧ m 324 &&& 255 = nI 3 ∧ m 325 &&& 255 = nI 205 ∧ m 326 &&& 255 = nI 17 ∧ m 327 &&& 255 = nI 1 ∧ m 328 &&& 255 = nI 17 ∧ m 329 &&& 255 = nI 100 ∧ m 330 &&& 255 = nI 0 ∧ m 331 &&& 255 = nI 205 ∧ m 332 &&& 255 = nI 17 ∧ m 333 &&& 255 = nI 1 ∧ m 334 &&& 255 = nI 17 ∧ m 335 &&& 255 = nI 10 ∧ m 336 &&& 255 = nI 0 ∧ m 337 &&& 255 = nI 205 ∧ m 338 &&& 255 = nI 17 ∧ m 339 &&& 255 = nI 1 ∧ m 340 &&& 255 = nI 125 ∧ m 341 &&& 255 = nI 198 ∧ m 342 &&& 255 = nI 48 ∧ m 343 &&& 255 = nI 211 ∧ m 344 &&& 255 = nI 1 ∧ m 345 &&& 255 = nI 62 ∧ m 346 &&& 255 = nI 10 ∧ m 347 &&& 255 = nI 211 ∧ m 348 &&& 255 = nI 1 ∧ m 349 &&& 255 = nI 201 ∧ True := h.2.2.1
theorem zq_yCnt {m : Nat → Int32} (h : zq_C m) : m 350 &&& 255 = nI 50 ∧ m 351 &&& 255 = nI 50 ∧ m 352 &&& 255 = nI 0 ∧ m 353 &&& 255 = nI 42 ∧ m 354 &&& 255 = nI 48 ∧ m 355 &&& 255 = nI 0 ∧ m 356 &&& 255 = nI 17 ∧ m 357 &&& 255 = nI 200 ∧ m 358 &&& 255 = nI 0 ∧ m 359 &&& 255 = nI 183 ∧ m 360 &&& 255 = nI 237 ∧ m 361 &&& 255 = nI 82 ∧ m 362 &&& 255 = nI 202 ∧ m 363 &&& 255 = nI 83 ∧ m 364 &&& 255 = nI 0 ∧ m 365 &&& 255 = nI 42 ∧ m 366 &&& 255 = nI 48 ∧ m 367 &&& 255 = nI 0 ∧ m 368 &&& 255 = nI 35 ∧ m 369 &&& 255 = nI 34 ∧ m 370 &&& 255 = nI 48 ∧ m 371 &&& 255 = nI 0 ∧ m 372 &&& 255 = nI 201 ∧ True := h.2.2.2
section
variable {pst : Int32 → St2 → Prop} {u : St2} {m : Nat → Int32} {b c de hl a s r : Nat} {l : List Nat} {cf zf : Bool}
theorem zq_neg (hC : zq_C m) (hh : hl < 65536) (hr : r < 65536) (hs : s < 2047) (r1 : m s &&& 255 = nI (r % 256)) (r2 : m (s + 1) &&& 255 = nI (r / 256))
    (H : ∀ a', a' < 256 → zq_RN pst (zq_M u m b c de ((65536 - hl) % 65536) a' l cf zf r (s + 2) 0)) :
    zq_RN pst (zq_M u m b c de hl a l cf zf 98 s 0) := by
  obtain ⟨h98, h99, h100, h101, h102, h103, h104, h105, -⟩ := zq_yNeg hC
  refine zq_go (zq_i_AH 98 (by decide) hh h98) ?_
  refine zq_go (zq_i_cpl 99 (by decide) (by omega) h99) ?_
  refine zq_go (zq_i_HA 100 (by decide) (by omega) h100) ?_
  refine zq_go (zq_i_AL 101 (by decide) h101) ?_
  refine zq_go (zq_i_cpl 102 (by decide) (by omega) h102) ?_
  refine zq_go (zq_i_LA 103 (by decide) (by omega) h103) ?_
  refine zq_go (zq_i_incHL 104 (by decide) (by omega) h104) ?_
  refine zq_go (zq_i_ret 105 (by decide) hr hs r1 r2 h105) ?_
  rw [show (((255 - hl / 256) * 256 + hl % 256) / 256 * 256 + (255 - ((255 - hl / 256) * 256 + hl % 256) % 256) + 1) % 65536 = (65536 - hl) % 65536 by omega]
  exact H _ (by omega)
theorem zq_dloop (hC : zq_C m) (hd : de < 65536) {r0 : Nat} (hr0 : r0 < de)
    : ∀ (q c hl a : Nat) (cf zf : Bool), hl = q * de + r0 → hl < 65536 → c + q < 256 → a < 256 →
    (∀ cf' zf', zq_RN pst (zq_M u m b (c + q) de r0 a l cf' zf' 286 s 0)) → zq_RN pst (zq_M u m b c de hl a l cf zf 275 s 0) := by
  obtain ⟨h273, h274, h275, h276, h277, h278, h279, h280, h281, h282, h283, h284, h285, h286, h287, h288, h289, h290, h291, h292, h293, h294, h295, h296, h297, h298, h299, h300, -⟩ := zq_yDig hC
  intro q
  induction q with
  | zero =>
    intro c hl a cf zf he hh hc ha H
    rw [Nat.zero_mul, Nat.zero_add] at he
    subst he
    refine zq_go (zq_i_orA 275 (by decide) ha h275) ?_
    refine zq_go (zq_i_sbcC 276 (by decide) hh hd hr0 h276 h277) ?_
    refine zq_go (zq_i_jpC (lo := 29) (hi' := 1) 278 (by decide) 285 (by decide) h278 h279 h280 (by decide) (by decide)) ?_
    refine zq_go (zq_i_addHLDE 285 (by decide) (by omega) hd h285) ?_
    rw [show (65536 + hl - de + de) % 65536 = hl by omega]
    exact H _ _
  | succ q ih =>
    intro c hl a cf zf he hh hc ha H
    rw [Nat.succ_mul] at he
    refine zq_go (zq_i_orA 275 (by decide) ha h275) ?_
    refine zq_go (zq_i_sbc 276 (by decide) hh hd (by omega) h276 h277) ?_
    refine zq_go (zq_i_jpCn (lo := 29) (hi' := 1) 278 (by decide) 285 (by decide) h278 h279 h280 (by decide) (by decide)) ?_
    refine zq_go (zq_i_incC 281 (by decide) (by omega) h281) ?_
    refine zq_go (zq_i_jp (lo := 19) (hi' := 1) 282 (by decide) 275 (by decide) h282 h283 h284 (by decide) (by decide)) ?_
    refine ih (c + 1) (hl - de) a _ _ (by omega) (by omega) (by omega) ha (fun cf' zf' => ?_)
    rw [show c + 1 + q = c + (q + 1) by omega]
    exact H cf' zf'
theorem zq_emit (hC : zq_C m) (hc : c < 128) (hn : l.length < 60) (hr : r < 65536) (hs : s < 2047) (r1 : m s &&& 255 = nI (r % 256)) (r2 : m (s + 1) &&& 255 = nI (r / 256))
    (H : zq_RN pst (zq_M u m 1 c de hl c (l ++ [c]) cf zf r (s + 2) 0)) :
    zq_RN pst (zq_M u m b c de hl a l cf zf 295 s 0) := by
  obtain ⟨h273, h274, h275, h276, h277, h278, h279, h280, h281, h282, h283, h284, h285, h286, h287, h288, h289, h290, h291, h292, h293, h294, h295, h296, h297, h298, h299, h300, -⟩ := zq_yDig hC
  refine zq_go (zq_i_ldB 295 (by decide) h295 h296 (by decide)) ?_
  refine zq_go (zq_i_AC 297 (by decide) (by omega) h297) ?_
  refine zq_go (zq_i_out 298 (by decide) hc hn h298) ?_
  exact zq_go (zq_i_ret 300 (by decide) hr hs r1 r2 h300) H
def zq_nb (b p h : Nat) : Nat := if b ≠ 0 ∨ p ≤ h then 1 else 0
def zq_nl (b p h : Nat) (l : List Nat) : List Nat := if b ≠ 0 ∨ p ≤ h then l ++ [48 + h / p] else l
theorem zq_dig (hC : zq_C m) (h0 : 0 < de) (hd : de ≤ 10000) (hh : hl < 10 * de) (hh2 : hl < 65536) (hb : b < 256) (ha : a < 256) (hn : l.length < 60) (hr : r < 65536) (hs : s < 2047) (r1 : m s &&& 255 = nI (r % 256)) (r2 : m (s + 1) &&& 255 = nI (r / 256))
    (H : ∀ c' a' cf' zf', a' < 256 → zq_RN pst (zq_M u m (zq_nb b de hl) c' de (hl % de) a' (zq_nl b de hl l) cf' zf' r (s + 2) 0)) :
    zq_RN pst (zq_M u m b c de hl a l cf zf 273 s 0) := by
  obtain ⟨h273, h274, h275, h276, h277, h278, h279, h280, h281, h282, h283, h284, h285, h286, h287, h288, h289, h290, h291, h292, h293, h294, h295, h296, h297, h298, h299, h300, -⟩ := zq_yDig hC
  have hq : hl / de < 10 := (Nat.div_lt_iff_lt_mul h0).mpr hh
  refine zq_go (zq_i_ldC 273 (by decide) h273 h274 (by decide)) ?_
  refine zq_dloop hC (by omega) (Nat.mod_lt hl h0) (hl / de) 48 hl a _ _ (by rw [Nat.mul_comm]; exact (Nat.div_add_mod hl de).symm) hh2 (by omega) ha (fun cf' zf' => ?_)
  refine zq_go (zq_i_AC 286 (by decide) (by omega) h286) ?_
  refine zq_go (zq_i_cpN 287 (by decide) (by omega) (Nat.le_add_right 48 _) h287 h288) ?_
  by_cases hz : hl / de = 0
  · have hlt : hl < de := by
      rcases Nat.div_eq_zero_iff.mp hz with h | h
      · omega
      · exact h
    rw [decide_eq_true (show 48 + hl / de - 48 = 0 by omega)]
    refine zq_go (zq_i_jpNZn (lo := 39) (hi' := 1) 289 (by decide) 295 (by decide) h289 h290 h291 (by decide) (by decide)) ?_
    refine zq_go (zq_i_AB 292 (by decide) hb h292) ?_
    refine zq_go (zq_i_orA 293 (by decide) hb h293) ?_
    by_cases hb0 : b = 0
    · rw [decide_eq_true hb0]
      refine zq_go (zq_i_retZ 294 (by decide) hr hs r1 r2 h294) ?_
      have e1 : zq_nb b de hl = b := by unfold zq_nb; rw [if_neg (by omega), hb0]
      have e2 : zq_nl b de hl l = l := by unfold zq_nl; rw [if_neg (by omega)]
      have g := H (48 + hl / de) b false true hb
      rw [e1, e2] at g
      exact g
    · rw [decide_eq_false hb0]
      refine zq_go (zq_i_retZn 294 (by decide) h294) ?_
      refine zq_emit hC (by omega) hn hr hs r1 r2 ?_
      have e1 : zq_nb b de hl = 1 := by unfold zq_nb; rw [if_pos (Or.inl hb0)]
      have e2 : zq_nl b de hl l = l ++ [48 + hl / de] := by unfold zq_nl; rw [if_pos (Or.inl hb0)]
      have g := H (48 + hl / de) (48 + hl / de) false false (by omega)
      rw [e1, e2] at g
      exact g
  · have hge : de ≤ hl := by
      rcases Nat.lt_or_ge hl de with h | h
      · exact absurd (Nat.div_eq_of_lt h) hz
      · exact h
    rw [decide_eq_false (show ¬ 48 + hl / de - 48 = 0 by rw [Nat.add_sub_cancel_left]; exact hz)]
    refine zq_go (zq_i_jpNZ (lo := 39) (hi' := 1) 289 (by decide) 295 (by decide) h289 h290 h291 (by decide) (by decide)) ?_
    refine zq_emit hC (by omega) hn hr hs r1 r2 ?_
    have e1 : zq_nb b de hl = 1 := by unfold zq_nb; rw [if_pos (Or.inr hge)]
    have e2 : zq_nl b de hl l = l ++ [48 + hl / de] := by unfold zq_nl; rw [if_pos (Or.inr hge)]
    have g := H (48 + hl / de) (48 + hl / de) false false (by omega)
    rw [e1, e2] at g
    exact g
/-- the same memory but for the two cells of the stack at s -/
def zq_sm (m m' : Nat → Int32) (s : Nat) : Prop := ∀ j, j ≠ s → j ≠ s + 1 → m' j = m j
theorem zq_sm_C {m' : Nat → Int32} (h : zq_sm m m' s) (hs : 600 ≤ s) (g : zq_C m) : zq_C m' := zq_C_eq (fun i h1 h2 => h i (by omega) (by omega)) g
theorem zq_sm_t {m' m'' : Nat → Int32} (h : zq_sm m m' s) (g : zq_sm m' m'' s) : zq_sm m m'' s := fun j h1 h2 => (g j h1 h2).trans (h j h1 h2)
theorem zq_sm_w (v : Nat) : zq_sm m (zq_st2 m s v) s := fun j h1 h2 => zq_st2_ne m v h1 h2
theorem zq_dgc {lo hi' : Nat} (i p : Nat) (hi : i < 1990) (hw : lo + 256 * hi' = p) (g1 : lo < 256) (g2 : hi' < 256) (h0 : m i &&& 255 = nI 17) (h1 : m (i + 1) &&& 255 = nI lo) (h2 : m (i + 1 + 1) &&& 255 = nI hi')
    (h3 : m (i + 3) &&& 255 = nI 205) (h4 : m (i + 3 + 1) &&& 255 = nI 17) (h5 : m (i + 3 + 1 + 1) &&& 255 = nI 1)
    (hC : zq_C m) (p0 : 0 < p) (hp : p ≤ 10000) (hh : hl < 10 * p) (hh2 : hl < 65536) (hb : b < 256) (ha : a < 256) (hn : l.length < 60) (hs1 : 600 ≤ s) (hs : s < 2047)
    (H : ∀ m' c' a' cf' zf', zq_sm m m' s → a' < 256 → zq_RN pst (zq_M u m' (zq_nb b p hl) c' p (hl % p) a' (zq_nl b p hl l) cf' zf' (i + 6) (s + 2) 0)) :
    zq_RN pst (zq_M u m b c de hl a l cf zf i (s + 2) 0) := by
  refine zq_go (zq_i_ldWDE i (by omega) p hw h0 h1 h2 g1 g2) ?_
  refine zq_go (zq_i_call (i + 3) (by omega) 273 (by decide) hs h3 h4 h5 (by decide) (by decide)) ?_
  exact zq_dig (zq_sm_C (zq_sm_w _) hs1 hC) p0 hp hh hh2 hb ha hn (r := i + 6) (by omega) hs (zq_st2_lo m s (by omega)) (zq_st2_hi m s (by omega)) (fun c' a' cf' zf' ha' => H _ c' a' cf' zf' (zq_sm_w _) ha')
def zq_dec (v : Nat) (l : List Nat) : List Nat :=
  zq_nl (zq_nb (zq_nb (zq_nb 0 10000 v) 1000 (v % 10000)) 100 (v % 10000 % 1000)) 10 (v % 10000 % 1000 % 100)
    (zq_nl (zq_nb (zq_nb 0 10000 v) 1000 (v % 10000)) 100 (v % 10000 % 1000)
      (zq_nl (zq_nb 0 10000 v) 1000 (v % 10000) (zq_nl 0 10000 v l))) ++ [48 + v % 10000 % 1000 % 100 % 10] ++ [10]
def zq_prn (v : Nat) (l : List Nat) : List Nat := if v < 32768 then zq_dec v l else zq_dec (65536 - v) (l ++ [45])
theorem zq_nbl (b p h : Nat) : zq_nb b p h < 256 := by unfold zq_nb; split <;> decide
theorem zq_nll (b p h : Nat) (l : List Nat) : (zq_nl b p h l).length ≤ l.length + 1 := by
  unfold zq_nl
  split
  · rw [List.length_append]; exact Nat.le_refl _
  · omega
theorem zq_p314 {v : Nat} (hC : zq_C m) (hv : v ≤ 32768) (ha : a < 256) (hn : l.length < 50) (hs1 : 600 ≤ s) (hr : r < 65536) (hs : s < 2045) (r1 : m (s + 2) &&& 255 = nI (r % 256)) (r2 : m (s + 2 + 1) &&& 255 = nI (r / 256))
    (H : ∀ m' b' c' de' hl' a' cf' zf', zq_sm m m' s → zq_RN pst (zq_M u m' b' c' de' hl' a' (zq_dec v l) cf' zf' r (s + 4) 0)) :
    zq_RN pst (zq_M u m b c de v a l cf zf 314 (s + 2) 0) := by
  have k1 := zq_nll 0 10000 v l
  have k2 := zq_nll (zq_nb 0 10000 v) 1000 (v % 10000) (zq_nl 0 10000 v l)
  have k3 := zq_nll (zq_nb (zq_nb 0 10000 v) 1000 (v % 10000)) 100 (v % 10000 % 1000) (zq_nl (zq_nb 0 10000 v) 1000 (v % 10000) (zq_nl 0 10000 v l))
  have k4 := zq_nll (zq_nb (zq_nb (zq_nb 0 10000 v) 1000 (v % 10000)) 100 (v % 10000 % 1000)) 10 (v % 10000 % 1000 % 100) (zq_nl (zq_nb (zq_nb 0 10000 v) 1000 (v % 10000)) 100 (v % 10000 % 1000) (zq_nl (zq_nb 0 10000 v) 1000 (v % 10000) (zq_nl 0 10000 v l)))
  have j1 := zq_nbl 0 10000 v
  have j2 := zq_nbl (zq_nb 0 10000 v) 1000 (v % 10000)
  have j3 := zq_nbl (zq_nb (zq_nb 0 10000 v) 1000 (v % 10000)) 100 (v % 10000 % 1000)
  refine zq_go (zq_i_ldB (n := 0) 314 (by decide) ((zq_yPrn hC).2.2.2.2.2.2.2.2.2.2.2.2.2.1) ((zq_yPrn hC).2.2.2.2.2.2.2.2.2.2.2.2.2.2.1) (by decide)) ?_
  refine zq_dgc 316 10000 (by decide) (lo := 16) (hi' := 39) (by decide) (by decide) (by decide) ((zq_yPrn hC).2.2.2.2.2.2.2.2.2.2.2.2.2.2.2.1) ((zq_yPrn hC).2.2.2.2.2.2.2.2.2.2.2.2.2.2.2.2.1) ((zq_yPrn hC).2.2.2.2.2.2.2.2.2.2.2.2.2.2.2.2.2.1) ((zq_yPrn hC).2.2.2.2.2.2.2.2.2.2.2.2.2.2.2.2.2.2.1) ((zq_yPrn hC).2.2.2.2.2.2.2.2.2.2.2.2.2.2.2.2.2.2.2.1) ((zq_yPrn hC).2.2.2.2.2.2.2.2.2.2.2.2.2.2.2.2.2.2.2.2.1) hC (by decide) (by decide) (by omega) (by omega) (by decide) ha (by omega) hs1 (by omega) (fun m1 c1 a1 cf1 zf1 hm1 ha1 => ?_)
  have hC1 : zq_C m1 := zq_sm_C hm1 hs1 hC
  refine zq_dgc 322 1000 (by decide) (lo := 232) (hi' := 3) (by decide) (by decide) (by decide) ((zq_yPrn hC1).2.2.2.2.2.2.2.2.2.2.2.2.2.2.2.2.2.2.2.2.2.1) ((zq_yPrn hC1).2.2.2.2.2.2.2.2.2.2.2.2.2.2.2.2.2.2.2.2.2.2.1) ((zq_yPrn hC1).2.2.2.2.2.2.2.2.2.2.2.2.2.2.2.2.2.2.2.2.2.2.2.1) ((zq_yPrn hC1).2.2.2.2.2.2.2.2.2.2.2.2.2.2.2.2.2.2.2.2.2.2.2.2.1) ((zq_yPrn hC1).2.2.2.2.2.2.2.2.2.2.2.2.2.2.2.2.2.2.2.2.2.2.2.2.2.1) ((zq_yPrn hC1).2.2.2.2.2.2.2.2.2.2.2.2.2.2.2.2.2.2.2.2.2.2.2.2.2.2.1) hC1 (by decide) (by decide) (by omega) (by omega) j1 ha1 (by omega) hs1 (by omega) (fun m2 c2 a2 cf2 zf2 hm2 ha2 => ?_)
  have hC2 : zq_C m2 := zq_sm_C hm2 hs1 hC1
  refine zq_dgc 328 100 (by decide) (lo := 100) (hi' := 0) (by decide) (by decide) (by decide) ((zq_yPrn hC2).2.2.2.2.2.2.2.2.2.2.2.2.2.2.2.2.2.2.2.2.2.2.2.2.2.2.2.1) ((zq_yPrn hC2).2.2.2.2.2.2.2.2.2.2.2.2.2.2.2.2.2.2.2.2.2.2.2.2.2.2.2.2.1) ((zq_yPrn hC2).2.2.2.2.2.2.2.2.2.2.2.2.2.2.2.2.2.2.2.2.2.2.2.2.2.2.2.2.2.1) ((zq_yPrn hC2).2.2.2.2.2.2.2.2.2.2.2.2.2.2.2.2.2.2.2.2.2.2.2.2.2.2.2.2.2.2.1) ((zq_yPrn hC2).2.2.2.2.2.2.2.2.2.2.2.2.2.2.2.2.2.2.2.2.2.2.2.2.2.2.2.2.2.2.2.1) ((zq_yPrn hC2).2.2.2.2.2.2.2.2.2.2.2.2.2.2.2.2.2.2.2.2.2.2.2.2.2.2.2.2.2.2.2.2.1) hC2 (by decide) (by decide) (by omega) (by omega) j2 ha2 (by omega) hs1 (by omega) (fun m3 c3 a3 cf3 zf3 hm3 ha3 => ?_)
  have hC3 : zq_C m3 := zq_sm_C hm3 hs1 hC2
  refine zq_dgc 334 10 (by decide) (lo := 10) (hi' := 0) (by decide) (by decide) (by decide) ((zq_yPrn hC3).2.2.2.2.2.2.2.2.2.2.2.2.2.2.2.2.2.2.2.2.2.2.2.2.2.2.2.2.2.2.2.2.2.1) ((zq_yPrn hC3).2.2.2.2.2.2.2.2.2.2.2.2.2.2.2.2.2.2.2.2.2.2.2.2.2.2.2.2.2.2.2.2.2.2.1) ((zq_yPrn hC3).2.2.2.2.2.2.2.2.2.2.2.2.2.2.2.2.2.2.2.2.2.2.2.2.2.2.2.2.2.2.2.2.2.2.2.1) ((zq_yPrn hC3).2.2.2.2.2.2.2.2.2.2.2.2.2.2.2.2.2.2.2.2.2.2.2.2.2.2.2.2.2.2.2.2.2.2.2.2.1) ((zq_yPrn hC3).2.2.2.2.2.2.2.2.2.2.2.2.2.2.2.2.2.2.2.2.2.2.2.2.2.2.2.2.2.2.2.2.2.2.2.2.2.1) ((zq_yPrn hC3).2.2.2.2.2.2.2.2.2.2.2.2.2.2.2.2.2.2.2.2.2.2.2.2.2.2.2.2.2.2.2.2.2.2.2.2.2.2.1) hC3 (by decide) (by decide) (by omega) (by omega) j3 ha3 (by omega) hs1 (by omega) (fun m4 c4 a4 cf4 zf4 hm4 ha4 => ?_)
  have hC4 : zq_C m4 := zq_sm_C hm4 hs1 hC3
  have hm : zq_sm m m4 s := zq_sm_t (zq_sm_t (zq_sm_t hm1 hm2) hm3) hm4
  obtain ⟨h301, h302, h303, h304, h305, h306, h307, h308, h309, h310, h311, h312, h313, h314, h315, h316, h317, h318, h319, h320, h321, h322, h323, h324, h325, h326, h327, h328, h329, h330, h331, h332, h333, h334, h335, h336, h337, h338, h339, h340, h341, h342, h343, h344, h345, h346, h347, h348, h349, -⟩ := zq_yPrn hC4
  refine zq_go (zq_i_AL 340 (by decide) h340) ?_
  rw [show v % 10000 % 1000 % 100 % 10 % 256 = v % 10000 % 1000 % 100 % 10 by omega]
  refine zq_go (zq_i_addN 341 (by decide) (by omega) h341 h342) ?_
  refine zq_go (zq_i_out 343 (by decide) (by omega) (by omega) h343) ?_
  refine zq_go (zq_i_ldA 345 (by decide) h345 h346 (by decide)) ?_
  refine zq_go (zq_i_out 347 (by decide) (by decide) (by rw [List.length_append]; exact Nat.lt_of_le_of_lt (Nat.succ_le_succ (Nat.le_trans k4 (Nat.succ_le_succ (Nat.le_trans k3 (Nat.succ_le_succ (Nat.le_trans k2 (Nat.succ_le_succ k1))))))) (by omega)) h347) ?_
  refine zq_go (zq_i_ret 349 (by decide) hr (by omega) (by rw [hm _ (by omega) (by omega)]; exact r1) (by rw [hm _ (by omega) (by omega)]; exact r2) h349) ?_
  rw [show v % 10000 % 1000 % 100 % 10 + 48 = 48 + v % 10000 % 1000 % 100 % 10 by omega]
  exact H _ _ _ _ _ _ _ _ hm
theorem zq_print301 {v : Nat} (hC : zq_C m) (hv : v < 65536) (hn : l.length < 40) (hs1 : 600 ≤ s) (hr : r < 65536) (hs : s < 2045) (r1 : m (s + 2) &&& 255 = nI (r % 256)) (r2 : m (s + 2 + 1) &&& 255 = nI (r / 256))
    (H : ∀ m' b' c' de' hl' a' cf' zf', zq_sm m m' s → zq_RN pst (zq_M u m' b' c' de' hl' a' (zq_prn v l) cf' zf' r (s + 4) 0)) :
    zq_RN pst (zq_M u m b c de v a l cf zf 301 (s + 2) 0) := by
  obtain ⟨h301, h302, h303, h304, h305, h306, h307, h308, h309, h310, h311, h312, h313, h314, h315, h316, h317, h318, h319, h320, h321, h322, h323, h324, h325, h326, h327, h328, h329, h330, h331, h332, h333, h334, h335, h336, h337, h338, h339, h340, h341, h342, h343, h344, h345, h346, h347, h348, h349, -⟩ := zq_yPrn hC
  refine zq_go (zq_i_AH 301 (by decide) hv h301) ?_
  refine zq_go (zq_i_and128 302 (by decide) (by omega) h302 h303) ?_
  by_cases hz : v < 32768
  · have e : (if v / 256 < 128 then 0 else 128) = 0 := if_pos (by omega)
    rw [e]
    refine zq_go (zq_i_jpZ (lo := 58) (hi' := 1) 304 (by decide) 314 (by decide) h304 h305 h306 (by decide) (by decide)) ?_
    refine zq_p314 hC (by omega) (by decide) (by omega) hs1 hr hs r1 r2 (fun m' b' c' de' hl' a' cf' zf' hm => ?_)
    have g := H m' b' c' de' hl' a' cf' zf' hm
    rw [show zq_prn v l = zq_dec v l from if_pos hz] at g
    exact g
  · have e : (if v / 256 < 128 then 0 else 128) = 128 := if_neg (by omega)
    rw [e]
    refine zq_go (zq_i_jpZn (lo := 58) (hi' := 1) 304 (by decide) 314 (by decide) h304 h305 h306 (by decide) (by decide)) ?_
    refine zq_go (zq_i_ldA 307 (by decide) h307 h308 (by decide)) ?_
    refine zq_go (zq_i_out 309 (by decide) (by decide) (by omega) h309) ?_
    refine zq_go (zq_i_call 311 (by decide) 98 (by decide) (by omega) h311 h312 h313 (by decide) (by decide)) ?_
    have k := zq_sm_w (m := m) (s := s) (311 + 3)
    refine zq_neg (zq_sm_C k hs1 hC) hv (r := 314) (by decide) (by omega) (zq_st2_lo m s (by decide)) (zq_st2_hi m s (by decide)) (fun a' ha' => ?_)
    rw [show (65536 - v) % 65536 = 65536 - v by omega]
    refine zq_p314 (zq_sm_C k hs1 hC) (by omega) ha' (by rw [List.length_append]; simp only [List.length_cons, List.length_nil]; omega) hs1 hr hs (by rw [k _ (by omega) (by omega)]; exact r1) (by rw [k _ (by omega) (by omega)]; exact r2) (fun m' b' c' de' hl' a' cf' zf' hm => ?_)
    have g := H m' b' c' de' hl' a' cf' zf' (zq_sm_t k hm)
    rw [show zq_prn v l = zq_dec (65536 - v) (l ++ [45]) from if_neg hz] at g
    exact g
theorem zq_count (hC : zq_C m) (ha : a < 256) (m48 : m 48 &&& 255 = nI 0) (m49 : m 49 &&& 255 = nI 0) (hs1 : 600 ≤ s) (hr : r < 65536) (hs : s < 2047) (r1 : m s &&& 255 = nI (r % 256)) (r2 : m (s + 1) &&& 255 = nI (r / 256))
    (H : ∀ m' de' hl' cf' zf', (∀ j, j ≠ 48 → j ≠ 49 → j ≠ 50 → m' j = m j) → m' 48 &&& 255 = nI 1 → m' 49 &&& 255 = nI 0 → zq_RN pst (zq_M u m' b c de' hl' a l cf' zf' r (s + 2) 0)) :
    zq_RN pst (zq_M u m b c de hl a l cf zf 350 s 0) := by
  obtain ⟨h350, h351, h352, -⟩ := zq_yCnt hC
  refine zq_go (zq_i_stAm (lo := 50) (hi' := 0) 350 (by decide) 50 (by decide) (by decide) h350 h351 h352 (by decide) (by decide)) ?_
  have q1 : ∀ j, j ≠ 50 → upd m 50 (nI a).toInt8.toInt32 j = m j := fun j h => pk_un h
  have hC1 : zq_C (upd m 50 (nI a).toInt8.toInt32) := zq_C_eq (fun i h1 h2 => q1 i (by omega)) hC
  have n48 : upd m 50 (nI a).toInt8.toInt32 48 &&& 255 = nI 0 := by rw [q1 48 (by decide)]; exact m48
  have n49 : upd m 50 (nI a).toInt8.toInt32 (48 + 1) &&& 255 = nI 0 := by rw [q1 (48 + 1) (by decide)]; exact m49
  have r1' : upd m 50 (nI a).toInt8.toInt32 s &&& 255 = nI (r % 256) := by rw [q1 s (by omega)]; exact r1
  have r2' : upd m 50 (nI a).toInt8.toInt32 (s + 1) &&& 255 = nI (r / 256) := by rw [q1 (s + 1) (by omega)]; exact r2
  generalize upd m 50 (nI a).toInt8.toInt32 = m1 at q1 hC1 n48 n49 r1' r2' ⊢
  obtain ⟨h350, h351, h352, h353, h354, h355, h356, h357, h358, h359, h360, h361, h362, h363, h364, h365, h366, h367, h368, h369, h370, h371, h372, -⟩ := zq_yCnt hC1
  refine zq_go (zq_i_ldHLm (lo := 48) (hi' := 0) 353 (by decide) 48 (by decide) (by decide) n48 n49 (by decide) (by decide) h353 h354 h355 (by decide) (by decide)) ?_
  refine zq_go (zq_i_ldWDE (lo := 200) (hi' := 0) 356 (by decide) 200 (by decide) h356 h357 h358 (by decide) (by decide)) ?_
  refine zq_go (zq_i_orA 359 (by decide) ha h359) ?_
  refine zq_go (zq_i_sbcC 360 (by decide) (by decide) (by decide) (by decide) h360 h361) ?_
  rw [show decide (65536 + (0 + 256 * 0) - 200 = 0) = false from rfl]
  refine zq_go (zq_i_jpZn (lo := 83) (hi' := 0) 362 (by decide) 83 (by decide) h362 h363 h364 (by decide) (by decide)) ?_
  refine zq_go (zq_i_ldHLm (lo := 48) (hi' := 0) 365 (by decide) 48 (by decide) (by decide) n48 n49 (by decide) (by decide) h365 h366 h367 (by decide) (by decide)) ?_
  refine zq_go (zq_i_incHL 368 (by decide) (by decide) h368) ?_
  rw [show (0 + 256 * 0 + 1) % 65536 = 1 from rfl]
  refine zq_go (zq_i_stHLm (lo := 48) (hi' := 0) 369 (by decide) 48 (by decide) (by decide) (by decide) h369 h370 h371 (by decide) (by decide)) ?_
  have q2 : ∀ j, j ≠ 48 → j ≠ 49 → zq_st2 m1 48 1 j = m1 j := fun j h1 h2 => zq_st2_ne m1 1 h1 h2
  refine zq_go (zq_i_ret 372 (by decide) hr hs (by rw [q2 s (by omega) (by omega)]; exact r1') (by rw [q2 (s + 1) (by omega) (by omega)]; exact r2') (by rw [q2 372 (by decide) (by decide)]; exact h372)) ?_
  exact H _ _ _ _ _ (fun j h1 h2 h3 => (q2 j h1 h2).trans (q1 j h3)) (zq_st2_lo m1 48 (by decide)) (zq_st2_hi m1 48 (by decide))
/-- what stands at 508: the number w is loaded, or a variable that is 0 -/
def zq_Ld (m : Nat → Int32) (w : Nat) : Prop := (∃ lo hi', lo < 256 ∧ hi' < 256 ∧ lo + 256 * hi' = w ∧ m 508 &&& 255 = nI 33 ∧ m 509 &&& 255 = nI lo ∧ m 510 &&& 255 = nI hi') ∨ (∃ ad, ad < 47 ∧ w = 0 ∧ m 508 &&& 255 = nI 42 ∧ m 509 &&& 255 = nI ad ∧ m 510 &&& 255 = nI 0 ∧ m ad &&& 255 = nI 0 ∧ m (ad + 1) &&& 255 = nI 0)
theorem zq_Ld_eq {m' : Nat → Int32} {w : Nat} (h : ∀ j, (j < 48 ∨ (80 ≤ j ∧ j < 600)) → m' j = m j) (g : zq_Ld m w) : zq_Ld m' w := by
  rcases g with ⟨lo, hi', a1, a2, a3, a4, a5, a6⟩ | ⟨ad, a1, a2, a3, a4, a5, a6, a7⟩
  · exact Or.inl ⟨lo, hi', a1, a2, a3, by rw [h 508 (by omega)]; exact a4, by rw [h 509 (by omega)]; exact a5, by rw [h 510 (by omega)]; exact a6⟩
  · exact Or.inr ⟨ad, a1, a2, by rw [h 508 (by omega)]; exact a3, by rw [h 509 (by omega)]; exact a4, by rw [h 510 (by omega)]; exact a5, by rw [h ad (by omega)]; exact a6, by rw [h (ad + 1) (by omega)]; exact a7⟩
theorem zq_ld508 {w : Nat} (g : zq_Ld m w) (H : zq_RN pst (zq_M u m b c de w a l cf zf 511 s 0)) : zq_RN pst (zq_M u m b c de hl a l cf zf 508 s 0) := by
  rcases g with ⟨lo, hi', a1, a2, a3, a4, a5, a6⟩ | ⟨ad, a1, a2, a3, a4, a5, a6, a7⟩
  · exact zq_go (zq_i_ldWHL 508 (by decide) w a3 a4 a5 a6 a1 a2) H
  · subst a2
    exact zq_go (zq_i_ldHLm (lo := ad) (hi' := 0) 508 (by decide) ad (by omega) (by omega) a6 a7 (by decide) (by decide) a3 a4 a5 (by omega) (by decide)) H
/-- the lines of the program with one line -/
def zq_ln (m : Nat → Int32) : Prop := zq_has m 503 [62, 0, 205, 94, 1] ∧ zq_has m 511 [205, 45, 1, 62, 1, 50, 50, 0, 62, 0, 118]
theorem zq_ln_eq {m' : Nat → Int32} (h : ∀ j, 80 ≤ j → j < 600 → m' j = m j) (g : zq_ln m) : zq_ln m' := ⟨zq_has_eq _ _ (fun i h1 h2 => h i (by omega) (Nat.lt_of_lt_of_le h2 (by decide))) g.1, zq_has_eq _ _ (fun i h1 h2 => h i (by omega) (Nat.lt_of_lt_of_le h2 (by decide))) g.2⟩
theorem zq_made {v : Nat} (hC : zq_C m) (hL : zq_ln m) (hv : v < 65536) (hD : zq_Ld m v) (m48 : m 48 &&& 255 = nI 0) (m49 : m 49 &&& 255 = nI 0)
    (H : ∀ x, pst (nI 0) (zq_N x 1 (zq_prn v []))) :
    zq_RN pst (zq_M u m b c de hl a [] cf zf 503 2048 0) := by
  obtain ⟨h503, h504, h505, h506, h507, -⟩ := hL.1
  refine zq_go (zq_i_ldA 503 (by decide) h503 h504 (by decide)) ?_
  refine zq_go (zq_i_call (s := 2046) (lo := 94) (hi' := 1) 505 (by decide) 350 (by decide) (by decide) h505 h506 h507 (by decide) (by decide)) ?_
  have k := zq_sm_w (m := m) (s := 2046) (505 + 3)
  refine zq_count (r := 508) (zq_sm_C k (by decide) hC) (by decide) (by rw [k _ (by decide) (by decide)]; exact m48) (by rw [k _ (by decide) (by decide)]; exact m49) (by decide) (by decide) (by decide) (zq_st2_lo m 2046 (by decide)) (zq_st2_hi m 2046 (by decide)) (fun m1 de1 hl1 cf1 zf1 hm1 n48 n49 => ?_)
  have k1 : ∀ j, (j < 48 ∨ (80 ≤ j ∧ j < 600)) → m1 j = m j := fun j h => (hm1 j (by omega) (by omega) (by omega)).trans (k j (by omega) (by omega))
  have hC1 : zq_C m1 := zq_C_eq (fun i h1 h2 => k1 i (by omega)) hC
  have hL1 : zq_ln m1 := zq_ln_eq (fun i h1 h2 => k1 i (by omega)) hL
  refine zq_ld508 (zq_Ld_eq k1 hD) ?_
  obtain ⟨h511, h512, h513, -⟩ := hL1.2
  refine zq_go (zq_i_call (s := 2046) (lo := 45) (hi' := 1) 511 (by decide) 301 (by decide) (by decide) h511 h512 h513 (by decide) (by decide)) ?_
  have k2 := zq_sm_w (m := m1) (s := 2046) (511 + 3)
  refine zq_print301 (s := 2044) (r := 514) (zq_sm_C k2 (by decide) hC1) hv (by decide) (by decide) (by decide) (by decide) (zq_st2_lo m1 2046 (by decide)) (zq_st2_hi m1 2046 (by decide)) (fun m2 b2 c2 de2 hl2 a2 cf2 zf2 hm2 => ?_)
  have k3 : ∀ j, j < 600 → m2 j = m1 j := fun j h => (hm2 j (by omega) (by omega)).trans (k2 j (by omega) (by omega))
  have hL2 : zq_ln m2 := zq_ln_eq (fun i h1 h2 => k3 i h2) hL1
  obtain ⟨-, -, -, h514, h515, h516, h517, h518, h519, h520, h521, -⟩ := hL2.2
  refine zq_go (zq_i_ldA 514 (by decide) h514 h515 (by decide)) ?_
  refine zq_go (zq_i_stAm (lo := 50) (hi' := 0) 516 (by decide) 50 (by decide) (by decide) h516 h517 h518 (by decide) (by decide)) ?_
  have q1 : ∀ j, j ≠ 50 → upd m2 50 (nI 1).toInt8.toInt32 j = m2 j := fun j h => pk_un h
  refine zq_go (zq_i_ldA 519 (by decide) (by rw [q1 519 (by decide)]; exact h519) (by rw [q1 (519 + 1) (by decide)]; exact h520) (by decide)) ?_
  refine zq_go (zq_i_halt 521 (by decide) (by rw [q1 521 (by decide)]; exact h521)) ?_
  exact zq_end (x := 1) (y := 0) (by rw [q1 48 (by decide), k3 48 (by decide)]; exact n48) (by rw [q1 49 (by decide), k3 49 (by decide)]; exact n49) (by decide) (by decide) H
/-- the program without lines -/
theorem zq_none (hL : zq_has m 503 [62, 0, 50, 50, 0, 62, 0, 118]) (m48 : m 48 &&& 255 = nI 0) (m49 : m 49 &&& 255 = nI 0)
    (H : ∀ x, pst (nI 0) (zq_N x 0 [])) :
    zq_RN pst (zq_M u m b c de hl a [] cf zf 503 2048 0) := by
  obtain ⟨h503, h504, h505, h506, h507, h508, h509, h510, -⟩ := hL
  refine zq_go (zq_i_ldA 503 (by decide) h503 h504 (by decide)) ?_
  refine zq_go (zq_i_stAm (lo := 50) (hi' := 0) 505 (by decide) 50 (by decide) (by decide) h505 h506 h507 (by decide) (by decide)) ?_
  have q1 : ∀ j, j ≠ 50 → upd m 50 (nI 0).toInt8.toInt32 j = m j := fun j h => pk_un h
  refine zq_go (zq_i_ldA 508 (by decide) (by rw [q1 508 (by decide)]; exact h508) (by rw [q1 (508 + 1) (by decide)]; exact h509) (by decide)) ?_
  refine zq_go (zq_i_halt 510 (by decide) (by rw [q1 510 (by decide)]; exact h510)) ?_
  exact zq_end (x := 0) (y := 0) (by rw [q1 48 (by decide)]; exact m48) (by rw [q1 49 (by decide)]; exact m49) (by decide) (by decide) H
end
end
section
/-! compiling a program of at most one line, and running it -/
def zq_KD (a1 a2 a11 a12 : Nat → Int32) (o W : Int32) : Prop := (a1 0 = 0 ∧ o = 33 ∧ W = a12 0) ∨ (a1 0 = 1 ∧ a11 0 = 0 ∧ o = 42 ∧ W = 2 * a2 0)
def zq_b0 (W : Int32) : Int32 := (W &&& 255).toInt8.toInt32
def zq_b1 (W : Int32) : Int32 := ((W >>> ((8 : Int32) &&& 31)) &&& 255).toInt8.toInt32
section
variable {post : St2 → Prop} {pst : Int32 → St2 → Prop} {ps : Int32 → Prop} {o W : Int32} {ec lc lv cp ce dp ng mu dv le sm nt sz pl fe so dg pr cn en fi fo nx s0 s1 s2 s3 s4 s5 cy zr ip sp ha sc el pn : Int32} {a1 a2 a3 a4 a5 a6 a7 a8 a9 a10 a11 a12 a13 a14 a15 a16 : Nat → Int32}
theorem zq_cstep {n : Nat} {x ph : Int32} (he : x = 0) (hk : zq_KD a1 a2 a11 a12 o W) (hn : n < 2000)
    (hp : pst (-1) (ec, lc, 2, cp, nI (n + 3), dp, ng, mu, dv, le, sm, nt, sz, pl, fe, so, dg, pr, cn, en, fi, fo, nx, s0, s1, s2, s3, s4, s5, cy, zr, ip, sp, ha, sc, el, pn, a1, a2, a3, a4, a5, a6, a7, a8, a9, a10, a11, a12, a13, upd (upd (upd a14 n o) (n + 1) (zq_b0 W)) (n + 2) (zq_b1 W), a15, a16)) :
    wpX_compileStep pst (ec, lc, 2, cp, nI n, dp, ng, mu, dv, le, sm, nt, sz, pl, fe, so, dg, pr, cn, en, fi, fo, nx, s0, s1, s2, s3, s4, s5, cy, zr, ip, sp, ha, sc, el, pn, a1, a2, a3, a4, a5, a6, a7, a8, a9, a10, a11, a12, a13, a14, a15, a16) x ph := by
  subst he
  have z : (0 : Int32).toNatClampNeg = 0 := sb_cl0
  refine ⟨vp_in_iff.mpr (by decide +kernel), nm_e ?_⟩
  rcases hk with ⟨k0, ho, hW⟩ | ⟨k1, ka, ho, hW⟩
  · subst ho
    have k0' : a1 (0 : Int32).toNatClampNeg = 0 := by rw [z]; exact k0
    refine ⟨vp_in_iff.mpr (by decide +kernel), br_t k0' (br_f (by decide) (br_f (by decide) ⟨vp_in_iff.mpr (by decide +kernel), br_t k0' (br_f (by decide) ⟨vp_in_iff.mpr (by decide +kernel), ?_⟩)⟩))⟩
    refine zq_o_load (n + 3) 33 (zq_b0 W) (zq_b1 W) ⟨by decide, by rw [z, hW]; rfl, by rw [z, hW]; rfl, rfl, by omega⟩ ?_
    exact hp
  · subst ho
    have k1' : a1 (0 : Int32).toNatClampNeg = 1 := by rw [z]; exact k1
    have k0' : ¬ a1 (0 : Int32).toNatClampNeg = 0 := by rw [k1']; decide
    have ka' : a11 (0 : Int32).toNatClampNeg = 0 := by rw [z]; exact ka
    refine ⟨vp_in_iff.mpr (by decide +kernel), br_f k0' (br_t rfl ⟨vp_in_iff.mpr (by decide +kernel), br_t ka' (br_t rfl ⟨vp_in_iff.mpr (by decide +kernel), br_t k1' (br_f (by decide) ⟨vp_in_iff.mpr (by decide +kernel), br_f k0' (br_t rfl ⟨vp_in_iff.mpr (by decide +kernel), br_t ka' (br_t rfl ⟨vp_in_iff.mpr (by decide +kernel), ?_⟩)⟩)⟩)⟩)⟩)⟩
    refine zq_o_loadHL (n + 3) 42 (zq_b0 W) (zq_b1 W) ⟨by decide, by rw [z, hW]; rfl, by rw [z, hW]; rfl, rfl, by omega⟩ ?_
    exact hp
theorem zq_cexpr {n : Nat} {x : Int32} (he : x = 0) (hk : zq_KD a1 a2 a11 a12 o W) (hn : n < 2000)
    (hp : ∀ a9 a10, post (ec, lc, 2, cp, nI (n + 3), -1, ng, mu, dv, le, sm, nt, sz, pl, fe, so, dg, pr, cn, en, fi, fo, nx, s0, s1, s2, s3, s4, s5, cy, zr, ip, sp, ha, sc, el, pn, a1, a2, a3, a4, a5, a6, a7, a8, a9, a10, a11, a12, a13, upd (upd (upd a14 n o) (n + 1) (zq_b0 W)) (n + 2) (zq_b1 W), a15, a16)) :
    wpX_compileExpression post (ec, lc, 2, cp, nI n, dp, ng, mu, dv, le, sm, nt, sz, pl, fe, so, dg, pr, cn, en, fi, fo, nx, s0, s1, s2, s3, s4, s5, cy, zr, ip, sp, ha, sc, el, pn, a1, a2, a3, a4, a5, a6, a7, a8, a9, a10, a11, a12, a13, a14, a15, a16) x := by
  subst he
  unfold wpX_compileExpression
  intro a9' e9 a10' e10
  have z : (0 : Int32).toNatClampNeg = 0 := sb_cl0
  refine ⟨2, br_f (by decide) ⟨vp_in_iff.mpr (by decide +kernel), nm_e ⟨vp_in_iff.mpr (by decide +kernel), vp_in_iff.mpr (by decide +kernel), nm_e ⟨vp_in_iff.mpr (by decide +kernel), ?_⟩⟩⟩⟩
  refine zq_cstep (by rw [z, e9, pk_us]; decide) hk hn ?_
  exact br_f (by decide) (nm_r (e' := -1) (by decide) (br_t (by decide) (hp _ _)))
theorem zq_cline {n : Nat} {i k v : Int32} (hi : i = 0) (hq : k = 2) (h7 : a7 0 = 0) (hk : zq_KD a1 a2 a11 a12 o W) (hn : n < 2000)
    (hp : ∀ a9 a10, post (ec, lc, 2, cp, nI (n + 6), -1, ng, mu, dv, le, sm, nt, sz, pl, fe, so, dg, nI 301, cn, en, fi, fo, nx, s0, s1, s2, s3, s4, s5, cy, zr, ip, sp, ha, sc, el, pn, a1, a2, a3, a4, a5, a6, a7, a8, a9, a10, a11, a12, a13, upd (upd (upd (upd (upd (upd a14 n o) (n + 1) (zq_b0 W)) (n + 2) (zq_b1 W)) (n + 3) (-51)) (n + 3 + 1) 45) (n + 3 + 2) 1, a15, a16)) :
    wpX_compileLine post (ec, lc, 2, cp, nI n, dp, ng, mu, dv, le, sm, nt, sz, pl, fe, so, dg, nI 301, cn, en, fi, fo, nx, s0, s1, s2, s3, s4, s5, cy, zr, ip, sp, ha, sc, el, pn, a1, a2, a3, a4, a5, a6, a7, a8, a9, a10, a11, a12, a13, a14, a15, a16) i k v := by
  subst hi
  subst hq
  refine br_t (by decide) (br_f (by decide) ⟨vp_in_iff.mpr (by decide +kernel), ?_⟩)
  refine zq_cexpr (by rw [sb_cl0]; exact h7) hk hn ?_
  intro a9' a10'
  refine br_f (by decide) (br_f (by decide) (br_t rfl ?_))
  refine zq_o_call (n + 6) (-51) 45 1 ⟨by decide, by decide, by decide, rfl, by omega⟩ ?_
  exact hp a9' a10'
/-- the line's bytes and the end's -/
def zq_lL (o W : Int32) : List (Nat × Int32) := [(521, 118), (520, 0), (519, 62), (518, 0), (517, 50), (516, 50), (515, 1), (514, 62), (513, 1), (512, 45), (511, -51), (510, zq_b1 W), (509, zq_b0 W), (508, o), (507, 1), (506, 94), (505, -51), (504, 0), (503, 62)]
def zq_l0 : List (Nat × Int32) := [(510, 118), (509, 0), (508, 62), (507, 0), (506, 50), (505, 50), (504, 0), (503, 62)]
theorem zq_c24 {J : Int32 → Int32 → Int32 → Int32 → Int32 → Int32 → Int32 → Int32 → Int32 → Int32 → Int32 → Int32 → Int32 → Int32 → Int32 → Int32 → Int32 → Int32 → Int32 → Int32 → Int32 → Int32 → Int32 → Int32 → Int32 → Int32 → Int32 → Int32 → Int32 → Int32 → Int32 → Int32 → Int32 → Int32 → Int32 → Int32 → Int32 → Int32 → (Nat → Int32) → (Nat → Int32) → (Nat → Int32) → (Nat → Int32) → (Nat → Int32) → (Nat → Int32) → (Nat → Int32) → (Nat → Int32) → (Nat → Int32) → (Nat → Int32) → (Nat → Int32) → (Nat → Int32) → (Nat → Int32) → (Nat → Int32) → (Nat → Int32) → (Nat → Int32) → Prop} {x1 : Int32} (h5 : a5 0 = 2) (h7 : a7 0 = 0) (hk : zq_KD a1 a2 a11 a12 o W)
    (hJ : ∀ dp a9 a10, J (x1 + 1) ec 1 2 cp (nI 522) dp ng mu dv le sm nt sz pl fe so dg (nI 301) (nI 350) en fi fo nx s0 s1 s2 s3 s4 s5 cy zr ip sp ha sc el pn a1 a2 a3 a4 a5 a6 a7 a8 a9 a10 a11 a12 (upd (upd a13 0 503) 1 514) (zq_ws a14 (zq_lL o W)) a15 a16) :
    ∃ fu, wX_compile_24 post J x1 fu 0 ec 1 2 cp (nI 503) dp ng mu dv le sm nt sz pl fe so dg (nI 301) (nI 350) en fi fo nx s0 s1 s2 s3 s4 s5 cy zr ip sp ha sc el pn a1 a2 a3 a4 a5 a6 a7 a8 a9 a10 a11 a12 a13 a14 a15 a16 := by
  have z : (0 : Int32).toNatClampNeg = 0 := sb_cl0
  refine ⟨2, br_f (by decide) ⟨vp_in_iff.mpr (by decide +kernel), nm_e ?_⟩⟩
  refine zq_o_loadByte 505 62 0 (by decide +kernel) ?_
  refine zq_o_call 508 (-51) 94 1 (by decide +kernel) ?_
  refine ⟨vp_in_iff.mpr (by decide +kernel), vp_in_iff.mpr (by decide +kernel), ?_⟩
  refine zq_cline rfl (by rw [z]; exact h5) h7 hk (by decide) ?_
  intro a9' a10'
  refine nm_e ?_
  refine br_t (by decide) ⟨vp_in_iff.mpr (by decide +kernel), nm_r (e' := upd (upd a13 0 503) 1 514) (by rw [z]; rfl) ?_⟩
  refine zq_o_loadByte 516 62 1 (by decide +kernel) ?_
  refine zq_o_saveA 519 50 50 0 (by decide +kernel) ?_
  refine zq_stop 522 0 (by decide +kernel) ?_
  refine nm_e ?_
  exact hJ _ a9' a10'
theorem zq_c24n {J : Int32 → Int32 → Int32 → Int32 → Int32 → Int32 → Int32 → Int32 → Int32 → Int32 → Int32 → Int32 → Int32 → Int32 → Int32 → Int32 → Int32 → Int32 → Int32 → Int32 → Int32 → Int32 → Int32 → Int32 → Int32 → Int32 → Int32 → Int32 → Int32 → Int32 → Int32 → Int32 → Int32 → Int32 → Int32 → Int32 → Int32 → Int32 → (Nat → Int32) → (Nat → Int32) → (Nat → Int32) → (Nat → Int32) → (Nat → Int32) → (Nat → Int32) → (Nat → Int32) → (Nat → Int32) → (Nat → Int32) → (Nat → Int32) → (Nat → Int32) → (Nat → Int32) → (Nat → Int32) → (Nat → Int32) → (Nat → Int32) → (Nat → Int32) → Prop} {x1 : Int32}
    (hJ : J (x1 + 1) ec 0 lv cp (nI 511) dp ng mu dv le sm nt sz pl fe so dg pr cn en fi fo nx s0 s1 s2 s3 s4 s5 cy zr ip sp ha sc el pn a1 a2 a3 a4 a5 a6 a7 a8 a9 a10 a11 a12 (upd a13 0 503) (zq_ws a14 zq_l0) a15 a16) :
    ∃ fu, wX_compile_24 post J x1 fu 0 ec 0 lv cp (nI 503) dp ng mu dv le sm nt sz pl fe so dg pr cn en fi fo nx s0 s1 s2 s3 s4 s5 cy zr ip sp ha sc el pn a1 a2 a3 a4 a5 a6 a7 a8 a9 a10 a11 a12 a13 a14 a15 a16 := by
  have z : (0 : Int32).toNatClampNeg = 0 := sb_cl0
  refine ⟨1, br_t (by decide) ⟨vp_in_iff.mpr (by decide +kernel), nm_r (e' := upd a13 0 503) (by rw [z]; rfl) ?_⟩⟩
  refine zq_o_loadByte 505 62 0 (by decide +kernel) ?_
  refine zq_o_saveA 508 50 50 0 (by decide +kernel) ?_
  refine zq_stop 511 0 (by decide +kernel) ?_
  refine nm_e ?_
  exact hJ
/-- what compiling leaves: the runtime and the line; below 80 nothing is touched -/
def zq_Q (m0 m : Nat → Int32) (o W : Int32) : Prop := zq_C m ∧ zq_ln m ∧ (m 508 = o ∧ m 509 = zq_b0 W ∧ m 510 = zq_b1 W) ∧ ∀ j, j < 80 → m j = m0 j
theorem zq_Qi {m0 m : Nat → Int32} (hC : zq_C m) (hO : ∀ i, (i < 80 ∨ 503 ≤ i) → m i = m0 i) : zq_Q m0 (zq_ws m (zq_lL o W)) o W := by
  have hO2 : ∀ i, i < 503 → zq_ws m (zq_lL o W) i = m i := fun i h => zq_ws_out m (a := 503) (b := 522) (Or.inl h) _ rfl
  refine ⟨zq_C_eq (fun i h1 h2 => hO2 i h2) hC, ⟨zq_has_ws m _ _ _ rfl, zq_has_ws m _ _ _ rfl⟩, ⟨rfl, rfl, rfl⟩, fun j h => ?_⟩
  rw [hO2 j (by omega), hO j (Or.inl h)]
def zq_Q0 (m0 m : Nat → Int32) : Prop := zq_has m 503 [62, 0, 50, 50, 0, 62, 0, 118] ∧ ∀ j, j < 80 → m j = m0 j
theorem zq_Q0i {m0 m : Nat → Int32} (hO : ∀ i, (i < 80 ∨ 503 ≤ i) → m i = m0 i) : zq_Q0 m0 (zq_ws m zq_l0) := by
  refine ⟨zq_has_ws m _ _ _ (by decide +kernel), fun j h => ?_⟩
  rw [zq_ws_out m (a := 503) (b := 522) (Or.inl (by omega)) _ (by decide +kernel), hO j (Or.inl h)]
set_option maxHeartbeats 1000000 in
theorem zq_rnd {n : Nat} {x1 : Int32} (hx : ¬ 2 ≤ x1) (h5 : a5 0 = 2) (h7 : a7 0 = 0) (hk : zq_KD a1 a2 a11 a12 o W)
    (hJ : ∀ dp a9 a10 a13 m, a13 0 = 503 → zq_Q a14 m o W → wX_compile_7 post n (x1 + 1) ec 1 2 cp (nI 522) dp (nI 98) (nI 106) (nI 126) (nI 201) (nI 219) (nI 228) (nI 236) (nI 243) (nI 255) (nI 263) (nI 273) (nI 301) (nI 350) (nI 373) (nI 387) (nI 409) (nI 449) (nI 80) (nI 83) (nI 86) (nI 89) (nI 92) (nI 95) cy zr ip sp ha sc el pn a1 a2 a3 a4 a5 a6 a7 a8 a9 a10 a11 a12 a13 m a15 a16) :
    wX_compile_7 post (n + 1) x1 ec 1 2 cp ce dp ng mu dv le sm nt sz pl fe so dg pr cn en fi fo nx s0 s1 s2 s3 s4 s5 cy zr ip sp ha sc el pn a1 a2 a3 a4 a5 a6 a7 a8 a9 a10 a11 a12 a13 a14 a15 a16 := by
  refine br_f hx ?_
  refine zq_rt ?_
  intro m hC hO
  refine zq_c24 h5 h7 hk ?_
  intro dp' a9' a10'
  exact hJ dp' a9' a10' _ _ rfl (zq_Qi hC hO)
set_option maxHeartbeats 1000000 in
theorem zq_rndn {n : Nat} {x1 : Int32} (hx : ¬ 2 ≤ x1)
    (hJ : ∀ a13 m, a13 0 = 503 → zq_Q0 a14 m → wX_compile_7 post n (x1 + 1) ec 0 lv cp (nI 511) dp (nI 98) (nI 106) (nI 126) (nI 201) (nI 219) (nI 228) (nI 236) (nI 243) (nI 255) (nI 263) (nI 273) (nI 301) (nI 350) (nI 373) (nI 387) (nI 409) (nI 449) (nI 80) (nI 83) (nI 86) (nI 89) (nI 92) (nI 95) cy zr ip sp ha sc el pn a1 a2 a3 a4 a5 a6 a7 a8 a9 a10 a11 a12 a13 m a15 a16) :
    wX_compile_7 post (n + 1) x1 ec 0 lv cp ce dp ng mu dv le sm nt sz pl fe so dg pr cn en fi fo nx s0 s1 s2 s3 s4 s5 cy zr ip sp ha sc el pn a1 a2 a3 a4 a5 a6 a7 a8 a9 a10 a11 a12 a13 a14 a15 a16 := by
  refine br_f hx ?_
  refine zq_rt ?_
  intro m hC hO
  refine zq_c24n ?_
  exact hJ _ _ rfl (zq_Q0i hO)
theorem zq_comp (h5 : a5 0 = 2) (h7 : a7 0 = 0) (hk : zq_KD a1 a2 a11 a12 o W)
    (hp : ∀ dp a9 a10 a13 m, a13 0 = 503 → zq_Q a14 m o W → post (ec, 1, 2, 1, nI 522, dp, nI 98, nI 106, nI 126, nI 201, nI 219, nI 228, nI 236, nI 243, nI 255, nI 263, nI 273, nI 301, nI 350, nI 373, nI 387, nI 409, nI 449, nI 80, nI 83, nI 86, nI 89, nI 92, nI 95, cy, zr, ip, sp, ha, sc, el, pn, a1, a2, a3, a4, a5, a6, a7, a8, a9, a10, a11, a12, a13, m, a15, a16)) :
    wpX_compile post (ec, 1, 2, cp, ce, dp, ng, mu, dv, le, sm, nt, sz, pl, fe, so, dg, pr, cn, en, fi, fo, nx, s0, s1, s2, s3, s4, s5, cy, zr, ip, sp, ha, sc, el, pn, a1, a2, a3, a4, a5, a6, a7, a8, a9, a10, a11, a12, a13, a14, a15, a16) := by
  refine ⟨3, ?_⟩
  refine zq_rnd (by decide) h5 h7 hk ?_
  intro d1 b9 b10 b13 m1 e1 q1
  refine zq_rnd (by decide) h5 h7 hk ?_
  intro d2 c9 c10 c13 m2 e2 q2
  refine br_t (by decide) ?_
  exact hp d2 c9 c10 c13 m2 e2 ⟨q2.1, q2.2.1, q2.2.2.1, fun j h => (q2.2.2.2 j h).trans (q1.2.2.2 j h)⟩
theorem zq_compn
    (hp : ∀ a13 m, a13 0 = 503 → zq_Q0 a14 m → post (ec, 0, lv, 1, nI 511, dp, nI 98, nI 106, nI 126, nI 201, nI 219, nI 228, nI 236, nI 243, nI 255, nI 263, nI 273, nI 301, nI 350, nI 373, nI 387, nI 409, nI 449, nI 80, nI 83, nI 86, nI 89, nI 92, nI 95, cy, zr, ip, sp, ha, sc, el, pn, a1, a2, a3, a4, a5, a6, a7, a8, a9, a10, a11, a12, a13, m, a15, a16)) :
    wpX_compile post (ec, 0, lv, cp, ce, dp, ng, mu, dv, le, sm, nt, sz, pl, fe, so, dg, pr, cn, en, fi, fo, nx, s0, s1, s2, s3, s4, s5, cy, zr, ip, sp, ha, sc, el, pn, a1, a2, a3, a4, a5, a6, a7, a8, a9, a10, a11, a12, a13, a14, a15, a16) := by
  refine ⟨3, ?_⟩
  refine zq_rndn (by decide) ?_
  intro b13 m1 e1 q1
  refine zq_rndn (by decide) ?_
  intro c13 m2 e2 q2
  refine br_t (by decide) ?_
  exact hp c13 m2 e2 ⟨q2.1, fun j h => (q2.2 j h).trans (q1.2 j h)⟩
/-- the cells from 48 to 79 are cleared -/
theorem zq_clr : ∀ (c k : Nat) (a14 : Nat → Int32), k + c = 80 →
    (∀ m, (∀ j, (j < k ∨ 80 ≤ j) → m j = a14 j) → (∀ j, k ≤ j → j < 80 → m j = 0) → ∀ f, f = a13 0 → ∃ fu, wX_run_71 pst fu ec lc lv cp ce dp ng mu dv le sm nt sz pl fe so dg pr cn en fi fo nx s0 s1 s2 s3 s4 s5 cy zr f 2048 0 sc el 0 a1 a2 a3 a4 a5 a6 a7 a8 a9 a10 a11 a12 a13 m a15 a16) →
    wX_run_25 pst ec lc lv cp ce dp ng mu dv le sm nt sz pl fe so dg pr cn en fi fo nx s0 s1 s2 s3 s4 s5 cy zr ip sp ha sc el pn (c + 1) (nI k) a1 a2 a3 a4 a5 a6 a7 a8 a9 a10 a11 a12 a13 a14 a15 a16
  | 0, k, a14, h, H => by
    have e : k = 80 := by omega
    subst e
    exact br_t (by decide) (H a14 (fun j _ => rfl) (fun j h1 h2 => absurd h1 (by omega)))
  | c + 1, k, a14, h, H => by
    refine br_f (show ¬ nI 80 ≤ nI k from nI_ge (by omega) (by decide)) ⟨vp_in_nI (by omega) (by decide), nm_r (e' := upd a14 k 0) (by rw [nI_clamp (by omega)]) (nm_r (nI_1 k) ?_)⟩
    refine zq_clr c (k + 1) (upd a14 k 0) (by omega) (fun m h1 h2 => H m (fun j hj => ?_) (fun j g1 g2 => ?_))
    · rw [h1 j (by omega), pk_un (by omega)]
    · by_cases e : j = k
      · rw [e, h1 k (by omega), pk_us]
      · exact h2 j (by omega) g2
theorem zq_g0 : (fun _ => 0 : Nat → Int32) = zq_g 0 0 0 0 0 := by
  funext i
  show (0 : Int32) = nI (if i = 0 then 0 else if i = 1 then 0 else if i = 2 then 0 / 256 else if i = 3 then 0 % 256 else if i = 4 then 0 / 256 else if i = 5 then 0 % 256 else if i = 7 then 0 else 0)
  simp only [Nat.zero_div, Nat.zero_mod, ite_self]
  rfl
theorem zq_t0 : (fun _ => 0 : Nat → Int32) = zq_tx [] := by
  funext i
  rfl

theorem zq_m0 {m : Nat → Int32} {j : Nat} (h : m j = 0) : m j &&& 255 = nI 0 := by rw [h]; decide
theorem zq_b0n {W : Int32} {x : Nat} (h : W &&& 255 = nI x) : zq_b0 W &&& 255 = nI x := by
  unfold zq_b0
  rw [zq_bp, h]
  obtain ⟨j, hj, e⟩ := pk_andE W 8 (m := 255) (by decide)
  rw [h] at e
  rw [e, zq_and255 (by omega), Nat.mod_eq_of_lt hj]
theorem zq_b1n {W : Int32} {x : Nat} (h : (W >>> ((8 : Int32) &&& 31)) &&& 255 = nI x) : zq_b1 W &&& 255 = nI x := by
  unfold zq_b1
  rw [zq_bp, h]
  obtain ⟨j, hj, e⟩ := pk_andE (W >>> ((8 : Int32) &&& 31)) 8 (m := 255) (by decide)
  rw [h] at e
  rw [e, zq_and255 (by omega), Nat.mod_eq_of_lt hj]
theorem zq_run1 {v lo hi' : Nat} (h15 : a15 = zq_g 0 0 0 0 0) (h16 : a16 = zq_tx []) (h5 : a5 0 = 2) (h7 : a7 0 = 0) (hk : zq_KD a1 a2 a11 a12 o W) (g1 : lo < 256) (g2 : hi' < 256) (hlo : W &&& 255 = nI lo) (hhi : (W >>> ((8 : Int32) &&& 31)) &&& 255 = nI hi')
    (hv : (o = 33 ∧ lo + 256 * hi' = v) ∨ (o = 42 ∧ v = 0 ∧ lo < 47 ∧ hi' = 0))
    (H : ∀ x, pst 0 (zq_N x 1 (zq_prn v []))) :
    wpX_run pst (ec, 1, 2, 0, ce, dp, ng, mu, dv, le, sm, nt, sz, pl, fe, so, dg, pr, cn, en, fi, fo, nx, s0, s1, s2, s3, s4, s5, 0, 0, ip, sp, ha, sc, el, pn, a1, a2, a3, a4, a5, a6, a7, a8, a9, a10, a11, a12, a13, (fun _ => 0), a15, a16) := by
  subst h15
  subst h16
  refine ⟨2, br_f (by decide) ⟨vp_in_iff.mpr (by decide +kernel), ?_⟩⟩
  rw [sb_cl0, h5]
  refine br_f (by decide) (br_f (by decide) (br_f (by decide) (br_t rfl (nm_e (br_t (by decide) (br_f (by decide) (br_t rfl ?_)))))))
  refine zq_comp h5 h7 hk ?_
  intro dp' a9' a10' a13' m e13 q
  refine ⟨33, ?_⟩
  refine zq_clr 32 48 m (by decide) ?_
  intro m' h1 h2 f hf
  obtain ⟨qC, qL, ⟨q8, q9, q10⟩, qO⟩ := q
  rw [e13] at hf
  subst hf
  have k : ∀ j, 80 ≤ j → m' j = m j := fun j h => h1 j (Or.inr h)
  have lw : ∀ j, j < 80 → m' j = 0 := fun j h => by
    rcases Nat.lt_or_ge j 48 with z | z
    · rw [h1 j (Or.inl z), qO j h]
    · exact h2 j z h
  have hD : zq_Ld m' v := by
    rcases hv with ⟨ho, hv⟩ | ⟨ho, hv, gl, gh⟩
    · exact Or.inl ⟨lo, hi', g1, g2, hv, by rw [k 508 (by decide), q8, ho]; decide, by rw [k 509 (by decide), q9]; exact zq_b0n hlo, by rw [k 510 (by decide), q10]; exact zq_b1n hhi⟩
    · exact Or.inr ⟨lo, gl, hv, by rw [k 508 (by decide), q8, ho]; decide, by rw [k 509 (by decide), q9]; exact zq_b0n hlo, by rw [k 510 (by decide), q10]; rw [gh] at hhi; exact zq_b1n hhi, zq_m0 (lw lo (by omega)), zq_m0 (lw (lo + 1) (by omega))⟩
  have hv2 : v < 65536 := by omega
  exact zq_made (u := (ec, 1, 2, 1, nI 522, dp', nI 98, nI 106, nI 126, nI 201, nI 219, nI 228, nI 236, nI 243, nI 255, nI 263, nI 273, nI 301, nI 350, nI 373, nI 387, nI 409, nI 449, nI 80, nI 83, nI 86, nI 89, nI 92, nI 95, 0, 0, ip, sp, ha, sc, el, pn, a1, a2, a3, a4, a5, a6, a7, a8, a9', a10', a11, a12, a13', m', zq_g 0 0 0 0 0, zq_tx [])) (cf := false) (zf := false) (zq_C_eq (fun i g1 g2 => k i g1) qC) (zq_ln_eq (fun i g1 g2 => k i g1) qL) hv2 hD (zq_m0 (lw 48 (by decide))) (zq_m0 (lw 49 (by decide))) H
theorem zq_run0 (h15 : a15 = zq_g 0 0 0 0 0) (h16 : a16 = zq_tx []) (H : ∀ x, pst 0 (zq_N x 0 [])) :
    wpX_run pst (ec, 0, lv, 0, ce, dp, ng, mu, dv, le, sm, nt, sz, pl, fe, so, dg, pr, cn, en, fi, fo, nx, s0, s1, s2, s3, s4, s5, 0, 0, ip, sp, ha, sc, el, pn, a1, a2, a3, a4, a5, a6, a7, a8, a9, a10, a11, a12, a13, (fun _ => 0), a15, a16) := by
  subst h15
  subst h16
  refine ⟨1, br_t (by decide) (br_f (by decide) (br_t rfl ?_))⟩
  refine zq_compn ?_
  intro a13' m e13 q
  refine ⟨33, ?_⟩
  refine zq_clr 32 48 m (by decide) ?_
  intro m' h1 h2 f hf
  rw [e13] at hf
  subst hf
  have k : ∀ j, 80 ≤ j → m' j = m j := fun j h => h1 j (Or.inr h)
  have lw : ∀ j, 48 ≤ j → j < 80 → m' j = 0 := fun j z h => h2 j z h
  exact zq_none (u := (ec, 0, lv, 1, nI 511, dp, nI 98, nI 106, nI 126, nI 201, nI 219, nI 228, nI 236, nI 243, nI 255, nI 263, nI 273, nI 301, nI 350, nI 373, nI 387, nI 409, nI 449, nI 80, nI 83, nI 86, nI 89, nI 92, nI 95, 0, 0, ip, sp, ha, sc, el, pn, a1, a2, a3, a4, a5, a6, a7, a8, a9, a10, a11, a12, a13', m', zq_g 0 0 0 0 0, zq_tx [])) (cf := false) (zf := false) (zq_has_eq _ _ (fun i g1 g2 => k i (by omega)) q.1) (zq_m0 (lw 48 (by decide) (by decide))) (zq_m0 (lw 49 (by decide) (by decide))) H
end
end
section
/-! the decimal digits, in plain naturals -/
theorem zq_nly {b p h : Nat} {l : List Nat} (g : b ≠ 0 ∨ p ≤ h) : zq_nl b p h l = l ++ [48 + h / p] := if_pos g
theorem zq_nln {b p h : Nat} {l : List Nat} (g : ¬ (b ≠ 0 ∨ p ≤ h)) : zq_nl b p h l = l := if_neg g
theorem zq_nby {b p h : Nat} (g : b ≠ 0 ∨ p ≤ h) : zq_nb b p h = 1 := if_pos g
theorem zq_nbn {b p h : Nat} (g : ¬ (b ≠ 0 ∨ p ≤ h)) : zq_nb b p h = 0 := if_neg g
def zq_ok (q : List Nat) (v sg d : Nat) : Prop := q.length = sg + d + 1 ∧ (∀ j, j < sg → q.getD j 0 = 45) ∧ (∀ j, sg ≤ j → j < sg + d → q.getD j 0 = 48 + v / 10 ^ (d - 1 - (j - sg)) % 10) ∧ q.getD (sg + d) 0 = 10
theorem zq_dec5 {v : Nat} (h1 : 10000 ≤ v) (h2 : v ≤ 32768) (l : List Nat) : zq_dec v l = l ++ [48 + v / 10000, 48 + v % 10000 / 1000, 48 + v % 10000 % 1000 / 100, 48 + v % 10000 % 1000 % 100 / 10, 48 + v % 10000 % 1000 % 100 % 10, 10] := by
  unfold zq_dec
  rw [zq_nby (show 0 ≠ 0 ∨ 10000 ≤ v by omega), zq_nly (show 0 ≠ 0 ∨ 10000 ≤ v by omega), zq_nby (show 1 ≠ 0 ∨ 1000 ≤ v % 10000 by omega), zq_nly (show 1 ≠ 0 ∨ 1000 ≤ v % 10000 by omega), zq_nby (show 1 ≠ 0 ∨ 100 ≤ v % 10000 % 1000 by omega), zq_nly (show 1 ≠ 0 ∨ 100 ≤ v % 10000 % 1000 by omega), zq_nly (show 1 ≠ 0 ∨ 10 ≤ v % 10000 % 1000 % 100 by omega)]
  simp only [List.append_assoc, List.cons_append, List.nil_append]
theorem zq_ok50 {v : Nat} (h1 : 10000 ≤ v) (h2 : v ≤ 32768) : zq_ok (zq_dec v []) v 0 5 := by
  rw [zq_dec5 h1 h2]
  refine ⟨rfl, fun j hj => ?_, fun j g1 g2 => ?_, rfl⟩
  · exact absurd hj (by omega)
  · have e : j = 0 ∨ j = 1 ∨ j = 2 ∨ j = 3 ∨ j = 4 := by omega
    rcases e with rfl | rfl | rfl | rfl | rfl
    · show 48 + v / 10000 = 48 + v / 10000 % 10
      omega
    · show 48 + v % 10000 / 1000 = 48 + v / 1000 % 10
      omega
    · show 48 + v % 10000 % 1000 / 100 = 48 + v / 100 % 10
      omega
    · show 48 + v % 10000 % 1000 % 100 / 10 = 48 + v / 10 % 10
      omega
    · show 48 + v % 10000 % 1000 % 100 % 10 = 48 + v / 1 % 10
      omega
theorem zq_ok51 {v : Nat} (h1 : 10000 ≤ v) (h2 : v ≤ 32768) : zq_ok (zq_dec v [45]) v 1 5 := by
  rw [zq_dec5 h1 h2]
  refine ⟨rfl, fun j hj => ?_, fun j g1 g2 => ?_, rfl⟩
  · have e : j = 0 := by omega
    subst e
    rfl
  · have e : j = 1 ∨ j = 2 ∨ j = 3 ∨ j = 4 ∨ j = 5 := by omega
    rcases e with rfl | rfl | rfl | rfl | rfl
    · show 48 + v / 10000 = 48 + v / 10000 % 10
      omega
    · show 48 + v % 10000 / 1000 = 48 + v / 1000 % 10
      omega
    · show 48 + v % 10000 % 1000 / 100 = 48 + v / 100 % 10
      omega
    · show 48 + v % 10000 % 1000 % 100 / 10 = 48 + v / 10 % 10
      omega
    · show 48 + v % 10000 % 1000 % 100 % 10 = 48 + v / 1 % 10
      omega
theorem zq_dec4 {v : Nat} (h1 : 1000 ≤ v) (h2 : v < 10000) (l : List Nat) : zq_dec v l = l ++ [48 + v / 1000, 48 + v % 1000 / 100, 48 + v % 1000 % 100 / 10, 48 + v % 1000 % 100 % 10, 10] := by
  unfold zq_dec
  rw [show v % 10000 = v by omega]
  rw [zq_nbn (show ¬ (0 ≠ 0 ∨ 10000 ≤ v) by omega), zq_nln (show ¬ (0 ≠ 0 ∨ 10000 ≤ v) by omega), zq_nby (show 0 ≠ 0 ∨ 1000 ≤ v by omega), zq_nly (show 0 ≠ 0 ∨ 1000 ≤ v by omega), zq_nby (show 1 ≠ 0 ∨ 100 ≤ v % 1000 by omega), zq_nly (show 1 ≠ 0 ∨ 100 ≤ v % 1000 by omega), zq_nly (show 1 ≠ 0 ∨ 10 ≤ v % 1000 % 100 by omega)]
  simp only [List.append_assoc, List.cons_append, List.nil_append]
theorem zq_ok40 {v : Nat} (h1 : 1000 ≤ v) (h2 : v < 10000) : zq_ok (zq_dec v []) v 0 4 := by
  rw [zq_dec4 h1 h2]
  refine ⟨rfl, fun j hj => ?_, fun j g1 g2 => ?_, rfl⟩
  · exact absurd hj (by omega)
  · have e : j = 0 ∨ j = 1 ∨ j = 2 ∨ j = 3 := by omega
    rcases e with rfl | rfl | rfl | rfl
    · show 48 + v / 1000 = 48 + v / 1000 % 10
      omega
    · show 48 + v % 1000 / 100 = 48 + v / 100 % 10
      omega
    · show 48 + v % 1000 % 100 / 10 = 48 + v / 10 % 10
      omega
    · show 48 + v % 1000 % 100 % 10 = 48 + v / 1 % 10
      omega
theorem zq_ok41 {v : Nat} (h1 : 1000 ≤ v) (h2 : v < 10000) : zq_ok (zq_dec v [45]) v 1 4 := by
  rw [zq_dec4 h1 h2]
  refine ⟨rfl, fun j hj => ?_, fun j g1 g2 => ?_, rfl⟩
  · have e : j = 0 := by omega
    subst e
    rfl
  · have e : j = 1 ∨ j = 2 ∨ j = 3 ∨ j = 4 := by omega
    rcases e with rfl | rfl | rfl | rfl
    · show 48 + v / 1000 = 48 + v / 1000 % 10
      omega
    · show 48 + v % 1000 / 100 = 48 + v / 100 % 10
      omega
    · show 48 + v % 1000 % 100 / 10 = 48 + v / 10 % 10
      omega
    · show 48 + v % 1000 % 100 % 10 = 48 + v / 1 % 10
      omega
theorem zq_dec3 {v : Nat} (h1 : 100 ≤ v) (h2 : v < 1000) (l : List Nat) : zq_dec v l = l ++ [48 + v / 100, 48 + v % 100 / 10, 48 + v % 100 % 10, 10] := by
  unfold zq_dec
  rw [show v % 10000 = v by omega, show v % 1000 = v by omega]
  rw [zq_nbn (show ¬ (0 ≠ 0 ∨ 10000 ≤ v) by omega), zq_nln (show ¬ (0 ≠ 0 ∨ 10000 ≤ v) by omega), zq_nbn (show ¬ (0 ≠ 0 ∨ 1000 ≤ v) by omega), zq_nln (show ¬ (0 ≠ 0 ∨ 1000 ≤ v) by omega), zq_nby (show 0 ≠ 0 ∨ 100 ≤ v by omega), zq_nly (show 0 ≠ 0 ∨ 100 ≤ v by omega), zq_nly (show 1 ≠ 0 ∨ 10 ≤ v % 100 by omega)]
  simp only [List.append_assoc, List.cons_append, List.nil_append]
theorem zq_ok30 {v : Nat} (h1 : 100 ≤ v) (h2 : v < 1000) : zq_ok (zq_dec v []) v 0 3 := by
  rw [zq_dec3 h1 h2]
  refine ⟨rfl, fun j hj => ?_, fun j g1 g2 => ?_, rfl⟩
  · exact absurd hj (by omega)
  · have e : j = 0 ∨ j = 1 ∨ j = 2 := by omega
    rcases e with rfl | rfl | rfl
    · show 48 + v / 100 = 48 + v / 100 % 10
      omega
    · show 48 + v % 100 / 10 = 48 + v / 10 % 10
      omega
    · show 48 + v % 100 % 10 = 48 + v / 1 % 10
      omega
theorem zq_ok31 {v : Nat} (h1 : 100 ≤ v) (h2 : v < 1000) : zq_ok (zq_dec v [45]) v 1 3 := by
  rw [zq_dec3 h1 h2]
  refine ⟨rfl, fun j hj => ?_, fun j g1 g2 => ?_, rfl⟩
  · have e : j = 0 := by omega
    subst e
    rfl
  · have e : j = 1 ∨ j = 2 ∨ j = 3 := by omega
    rcases e with rfl | rfl | rfl
    · show 48 + v / 100 = 48 + v / 100 % 10
      omega
    · show 48 + v % 100 / 10 = 48 + v / 10 % 10
      omega
    · show 48 + v % 100 % 10 = 48 + v / 1 % 10
      omega
theorem zq_dec2 {v : Nat} (h1 : 10 ≤ v) (h2 : v < 100) (l : List Nat) : zq_dec v l = l ++ [48 + v / 10, 48 + v % 10, 10] := by
  unfold zq_dec
  rw [show v % 10000 = v by omega, show v % 1000 = v by omega, show v % 100 = v by omega]
  rw [zq_nbn (show ¬ (0 ≠ 0 ∨ 10000 ≤ v) by omega), zq_nln (show ¬ (0 ≠ 0 ∨ 10000 ≤ v) by omega), zq_nbn (show ¬ (0 ≠ 0 ∨ 1000 ≤ v) by omega), zq_nln (show ¬ (0 ≠ 0 ∨ 1000 ≤ v) by omega), zq_nbn (show ¬ (0 ≠ 0 ∨ 100 ≤ v) by omega), zq_nln (show ¬ (0 ≠ 0 ∨ 100 ≤ v) by omega), zq_nly (show 0 ≠ 0 ∨ 10 ≤ v by omega)]
  simp only [List.append_assoc, List.cons_append, List.nil_append]
theorem zq_ok20 {v : Nat} (h1 : 10 ≤ v) (h2 : v < 100) : zq_ok (zq_dec v []) v 0 2 := by
  rw [zq_dec2 h1 h2]
  refine ⟨rfl, fun j hj => ?_, fun j g1 g2 => ?_, rfl⟩
  · exact absurd hj (by omega)
  · have e : j = 0 ∨ j = 1 := by omega
    rcases e with rfl | rfl
    · show 48 + v / 10 = 48 + v / 10 % 10
      omega
    · show 48 + v % 10 = 48 + v / 1 % 10
      omega
theorem zq_ok21 {v : Nat} (h1 : 10 ≤ v) (h2 : v < 100) : zq_ok (zq_dec v [45]) v 1 2 := by
  rw [zq_dec2 h1 h2]
  refine ⟨rfl, fun j hj => ?_, fun j g1 g2 => ?_, rfl⟩
  · have e : j = 0 := by omega
    subst e
    rfl
  · have e : j = 1 ∨ j = 2 := by omega
    rcases e with rfl | rfl
    · show 48 + v / 10 = 48 + v / 10 % 10
      omega
    · show 48 + v % 10 = 48 + v / 1 % 10
      omega
theorem zq_dec1 {v : Nat} (h1 : 0 ≤ v) (h2 : v < 10) (l : List Nat) : zq_dec v l = l ++ [48 + v, 10] := by
  unfold zq_dec
  rw [show v % 10000 = v by omega, show v % 1000 = v by omega, show v % 100 = v by omega, show v % 10 = v by omega]
  rw [zq_nbn (show ¬ (0 ≠ 0 ∨ 10000 ≤ v) by omega), zq_nln (show ¬ (0 ≠ 0 ∨ 10000 ≤ v) by omega), zq_nbn (show ¬ (0 ≠ 0 ∨ 1000 ≤ v) by omega), zq_nln (show ¬ (0 ≠ 0 ∨ 1000 ≤ v) by omega), zq_nbn (show ¬ (0 ≠ 0 ∨ 100 ≤ v) by omega), zq_nln (show ¬ (0 ≠ 0 ∨ 100 ≤ v) by omega), zq_nln (show ¬ (0 ≠ 0 ∨ 10 ≤ v) by omega)]
  simp only [List.append_assoc, List.cons_append, List.nil_append]
theorem zq_ok10 {v : Nat} (h1 : 0 ≤ v) (h2 : v < 10) : zq_ok (zq_dec v []) v 0 1 := by
  rw [zq_dec1 h1 h2]
  refine ⟨rfl, fun j hj => ?_, fun j g1 g2 => ?_, rfl⟩
  · exact absurd hj (by omega)
  · have e : j = 0 := by omega
    subst e
    show 48 + v = 48 + v / 1 % 10
    omega
theorem zq_ok11 {v : Nat} (h1 : 0 ≤ v) (h2 : v < 10) : zq_ok (zq_dec v [45]) v 1 1 := by
  rw [zq_dec1 h1 h2]
  refine ⟨rfl, fun j hj => ?_, fun j g1 g2 => ?_, rfl⟩
  · have e : j = 0 := by omega
    subst e
    rfl
  · have e : j = 1 := by omega
    subst e
    show 48 + v = 48 + v / 1 % 10
    omega
/-! what the law reads -/
def zq_txt (q : List Nat) (k : Int32) : Int32 := if k < 0 then 0 else nI (q.getD k.toNatClampNeg 0)
theorem zq_txt_n (q : List Nat) {j : Nat} (h : j < 2 ^ 31) : zq_txt q (nI j) = nI (q.getD j 0) := by
  unfold zq_txt
  rw [if_neg (nI_pos h), nI_clamp h]
theorem zq_getD0 {q : List Nat} {j : Nat} (h : q.length ≤ j) : q.getD j 0 = 0 := by
  rw [List.getD_eq_getElem?_getD, List.getElem?_eq_none h]
  rfl
theorem zq_txt_out {q : List Nat} {k : Int32} (hn : q.length < 2 ^ 31) (h : nI q.length ≤ k) : zq_txt q k = 0 := by
  by_cases g : k < 0
  · exact if_pos g
  · obtain ⟨j, hj, rfl⟩ := nI_of g
    rw [zq_txt_n q hj, zq_getD0 ((nI_leI hn hj).mp h)]
    rfl
section
variable {post : Int32 → St0 → Prop} {mc ms kc ks : Nat} {x0 x1 x2 z0 : Int32}
theorem zq_l195 {q : List Nat} {v sg d : Nat} (hv : v < 2 ^ 31) (hz : ∃ p : Nat, 0 < p ∧ p < 2 ^ 31 ∧ z0 = nI p ∧ (∀ j, x2 = nI j → sg ≤ j → j < sg + d → p = 10 ^ (d - 1 - (j - sg)))) (hd : sg + d < 20) (hok : zq_ok q v sg d)
    (H : wL_lawOf_264 post mc ms x0 x1 x2 1 (nI q.length) (zq_txt q x2) kc ks) : wL_lawOf_195 post mc ms x0 x1 x2 1 (nI v) (nI sg) (nI d) z0 kc ks := by
  obtain ⟨p, p0, p1, rfl, hp⟩ := hz
  obtain ⟨o1, o2, o3, o4⟩ := hok
  have hq : v / p < 2 ^ 31 := Nat.lt_of_le_of_lt (Nat.div_le_self v p) hv
  refine ⟨nI_ne0 p0 p1, by decide, nm_r (e' := nI (48 + v / p % 10)) ?_ (nm_r (e' := nI q.length) ?_ (br_f (by decide) ?_))⟩
  · rw [pk_div hv p0 p1]
    show nI 48 + (nI (v / p) - nI (v / p) / nI 10 * nI 10) = _
    rw [pk_rem hq (by decide) (by decide), nI_add]
  · rw [nI_add, nI_1, o1]
  · rcases pk_ix x2 (n := q.length) (by omega) with h | h | ⟨j, hj, rfl⟩
    · rw [show zq_txt q x2 = 0 from if_pos h] at H
      exact br_t h H
    · rw [zq_txt_out (by omega) h] at H
      refine br_f (fun g => ?_) (br_f (fun g => ?_) H)
      · obtain ⟨t1, t2⟩ : (nI q.length).toInt ≤ x2.toInt ∧ x2.toInt < (0 : Int32).toInt := ⟨Int32.le_iff_toInt_le.mp h, Int32.lt_iff_toInt_lt.mp g⟩
        rw [nI_toInt (by omega)] at t1
        have t3 : (0 : Int32).toInt = 0 := by decide
        omega
      · have t1 := Int32.le_iff_toInt_le.mp h
        have t2 := Int32.lt_iff_toInt_lt.mp g
        omega
    · rw [zq_txt_n q (by omega)] at H
      refine br_f (nI_pos (by omega)) (br_t (nI_lt hj (by omega)) ?_)
      have e1 : nI q.length - 1 = nI (sg + d) := by rw [o1]; exact nI_pred _
      by_cases e : j = sg + d
      · subst e
        rw [o4] at H
        exact br_t e1.symm H
      · have e2 : ¬ nI j = nI q.length - 1 := by
          rw [e1, nI_eq (by omega) (by omega)]
          exact e
        refine br_f e2 ?_
        by_cases g : sg ≤ j
        · rw [o3 j g (by omega), ← hp j rfl g (by omega)] at H
          exact br_t (nI_le g (by omega)) H
        · rw [o2 j (by omega)] at H
          exact br_f (nI_ge (by omega) (by omega)) H
theorem zq_l135 {q : List Nat} {v sg d : Nat} (hv : v < 2 ^ 31) (hd1 : 1 ≤ d) (hd5 : d ≤ 5) (hsg : sg ≤ 1) (hok : zq_ok q v sg d)
    (H : wL_lawOf_264 post mc ms x0 x1 x2 1 (nI q.length) (zq_txt q x2) kc ks) : wL_lawOf_135 post mc ms x0 x1 x2 1 (nI v) (nI sg) (nI d) kc ks := by
  have X : ∀ j, x2 = nI j → sg ≤ j → j < sg + d → (nI d - 1) - (x2 - nI sg) = nI (d - 1 - (j - sg)) := by
    intro j e g1 g2
    rw [e, pk_sub g1, show nI d - 1 = nI (d - 1) from pk_sub (b := 1) hd1, pk_sub (by omega)]
  refine nm_e (br_c (fun h1 => ?_) (fun n1 => br_c (fun h2 => ?_) (fun n2 => br_c (fun h3 => ?_) (fun n3 => br_c (fun h4 => ?_) (fun n4 => ?_)))))
  · refine zq_l195 hv ⟨10, by decide, by decide, rfl, fun j e g1 g2 => ?_⟩ (by omega) hok H
    rw [X j e g1 g2] at h1
    rw [(nI_eq (b := 1) (by omega) (by decide)).mp h1]
  · refine zq_l195 hv ⟨100, by decide, by decide, rfl, fun j e g1 g2 => ?_⟩ (by omega) hok H
    rw [X j e g1 g2] at h2
    rw [(nI_eq (b := 2) (by omega) (by decide)).mp h2]
  · refine zq_l195 hv ⟨1000, by decide, by decide, rfl, fun j e g1 g2 => ?_⟩ (by omega) hok H
    rw [X j e g1 g2] at h3
    rw [(nI_eq (b := 3) (by omega) (by decide)).mp h3]
  · refine zq_l195 hv ⟨10000, by decide, by decide, rfl, fun j e g1 g2 => ?_⟩ (by omega) hok H
    rw [X j e g1 g2] at h4
    rw [(nI_eq (b := 4) (by omega) (by decide)).mp h4]
  · refine zq_l195 hv ⟨1, by decide, by decide, rfl, fun j e g1 g2 => ?_⟩ (by omega) hok H
    rw [X j e g1 g2] at n1 n2 n3 n4
    have m1 : ¬ d - 1 - (j - sg) = 1 := fun z => n1 (congrArg nI z)
    have m2 : ¬ d - 1 - (j - sg) = 2 := fun z => n2 (congrArg nI z)
    have m3 : ¬ d - 1 - (j - sg) = 3 := fun z => n3 (congrArg nI z)
    have m4 : ¬ d - 1 - (j - sg) = 4 := fun z => n4 (congrArg nI z)
    rw [show d - 1 - (j - sg) = 0 by omega]
theorem zq_l86 {v sg : Nat} {l : List Nat} (hv : v ≤ 32768) (hl : (l = [] ∧ sg = 0) ∨ (l = [45] ∧ sg = 1))
    (H : wL_lawOf_264 post mc ms x0 x1 x2 1 (nI (zq_dec v l).length) (zq_txt (zq_dec v l) x2) kc ks) : wL_lawOf_86 post mc ms x0 x1 x2 1 (nI v) (nI sg) kc ks := by
  have hv2 : v < 2 ^ 31 := by omega
  rcases hl with ⟨rfl, rfl⟩ | ⟨rfl, rfl⟩
  · exact pk_le v 9999 (fun h1 => pk_le v 999 (fun h2 => pk_le v 99 (fun h3 => pk_le v 9 (fun h4 => zq_l135 hv2 (by decide) (by decide) (by decide) (zq_ok10 (by omega) (by omega)) H) (fun g => zq_l135 hv2 (by decide) (by decide) (by decide) (zq_ok20 (by omega) (by omega)) H)) (fun g => zq_l135 hv2 (by decide) (by decide) (by decide) (zq_ok30 (by omega) (by omega)) H)) (fun g => zq_l135 hv2 (by decide) (by decide) (by decide) (zq_ok40 (by omega) (by omega)) H)) (fun g => zq_l135 hv2 (by decide) (by decide) (by decide) (zq_ok50 (by omega) (by omega)) H)
  · exact pk_le v 9999 (fun h1 => pk_le v 999 (fun h2 => pk_le v 99 (fun h3 => pk_le v 9 (fun h4 => zq_l135 hv2 (by decide) (by decide) (by decide) (zq_ok11 (by omega) (by omega)) H) (fun g => zq_l135 hv2 (by decide) (by decide) (by decide) (zq_ok21 (by omega) (by omega)) H)) (fun g => zq_l135 hv2 (by decide) (by decide) (by decide) (zq_ok31 (by omega) (by omega)) H)) (fun g => zq_l135 hv2 (by decide) (by decide) (by decide) (zq_ok41 (by omega) (by omega)) H)) (fun g => zq_l135 hv2 (by decide) (by decide) (by decide) (zq_ok51 (by omega) (by omega)) H)
theorem zq_l195n {v sg d p : Nat} (p0 : 0 < p) (p1 : p < 2 ^ 31) (H : ∀ x12, wL_lawOf_264 post mc ms x0 x1 x2 0 x12 0 kc ks) : wL_lawOf_195 post mc ms x0 x1 x2 0 (nI v) (nI sg) (nI d) (nI p) kc ks :=
  ⟨nI_ne0 p0 p1, by decide, nm_e (nm_e (br_t rfl (H _)))⟩
theorem zq_l86n (H : ∀ x12, wL_lawOf_264 post mc ms x0 x1 x2 0 x12 0 kc ks) : wL_lawOf_86 post mc ms x0 x1 x2 0 0 0 kc ks := by
  refine br_t (by decide) (br_t (by decide) (br_t (by decide) (br_t (by decide) (nm_e (br_c (fun _ => ?_) (fun _ => br_c (fun _ => ?_) (fun _ => br_c (fun _ => ?_) (fun _ => br_c (fun _ => ?_) (fun _ => ?_)))))))))
  · exact zq_l195n (v := 0) (sg := 0) (d := 1) (p := 10) (by decide) (by decide) H
  · exact zq_l195n (v := 0) (sg := 0) (d := 1) (p := 100) (by decide) (by decide) H
  · exact zq_l195n (v := 0) (sg := 0) (d := 1) (p := 1000) (by decide) (by decide) H
  · exact zq_l195n (v := 0) (sg := 0) (d := 1) (p := 10000) (by decide) (by decide) H
  · exact zq_l195n (v := 0) (sg := 0) (d := 1) (p := 1) (by decide) (by decide) H
end
end
section
/-! the law's calls -/
theorem zq_wrapn {t : Nat} (h0 : 0 < t) (h : t < 2 ^ 31) : -nI t = nI (4294967296 - t) := by
  rw [← Int32.zero_sub, ← nI_0, ← zq_wrap 0, pk_sub (by omega)]
theorem zq_s16 {x : Int32} (h1 : ¬ x < -32768) (h2 : ¬ 32767 < x) : x.toInt16.toInt32 = x := by
  have g1 : ¬ x.toInt < (-32768 : Int32).toInt := fun z => h1 (Int32.lt_iff_toInt_lt.mpr z)
  have g2 : ¬ (32767 : Int32).toInt < x.toInt := fun z => h2 (Int32.lt_iff_toInt_lt.mpr z)
  have e1 : (-32768 : Int32).toInt = -32768 := by decide
  have e2 : (32767 : Int32).toInt = 32767 := by decide
  rw [e1] at g1
  rw [e2] at g2
  apply Int32.toInt_inj.mp
  rw [Int16.toInt_toInt32, Int32.toInt_toInt16]
  apply Int.bmod_eq_of_le
  · show -((65536 : Int) / 2) ≤ x.toInt
    omega
  · show x.toInt < ((65536 : Int) + 1) / 2
    omega
theorem zq_neg_of {x : Int32} (h1 : ¬ x < -32768) (h : ¬ 0 ≤ x) : ∃ t : Nat, 0 < t ∧ t ≤ 32768 ∧ x = -nI t := by
  have g1 : ¬ x.toInt < (-32768 : Int32).toInt := fun z => h1 (Int32.lt_iff_toInt_lt.mpr z)
  have g2 : ¬ (0 : Int32).toInt ≤ x.toInt := fun z => h (Int32.le_iff_toInt_le.mpr z)
  have e1 : (-32768 : Int32).toInt = -32768 := by decide
  have e2 : (0 : Int32).toInt = 0 := by decide
  rw [e1] at g1
  rw [e2] at g2
  refine ⟨(-x.toInt).toNat, by omega, by omega, ?_⟩
  apply Int32.toInt_inj.mp
  rw [sb_negT (by omega)]
  omega
theorem zq_loN {t : Nat} (h0 : 0 < t) (h : t ≤ 32768) : -nI t &&& 255 = nI ((65536 - t) % 256) := by
  rw [zq_wrapn h0 (by omega), zq_and255 (by omega)]
  exact congrArg nI (by omega)
theorem zq_hiN {t : Nat} (h0 : 0 < t) (h : t ≤ 32768) : ((-nI t) >>> ((8 : Int32) &&& 31)) &&& 255 = nI ((65536 - t) / 256) := by
  have e : (-nI t) >>> ((8 : Int32) &&& 31) = -nI ((t + 255) / 256) := by
    apply Int32.toInt_inj.mp
    rw [pk_shr _ _ 8 (by decide), sb_negT (by omega), sb_negT (by omega), Int.shiftRight_eq_div_pow]
    show -(t : Int) / 256 = -(((t + 255) / 256 : Nat) : Int)
    omega
  rw [e, zq_wrapn (by omega) (by omega), zq_and255 (by omega)]
  exact congrArg nI (by omega)
theorem zq_loP {t : Nat} (h : t ≤ 32767) : nI t &&& 255 = nI (t % 256) := zq_and255 (by omega)
theorem zq_hiP {t : Nat} (h : t ≤ 32767) : (nI t >>> ((8 : Int32) &&& 31)) &&& 255 = nI (t / 256) := by
  rw [zq_shr8 (by omega), zq_and255 (by omega), Nat.mod_eq_of_lt (by omega)]
theorem zq_var : ∀ j, j < 8 → (2 : Int32) * (nI j).toInt16.toInt32 = nI (2 * j) := by decide +kernel
section
variable {post : St2 → Prop} {pst : Int32 → St2 → Prop} {ps : Int32 → Prop} {ec lc lv cp ce dp ng mu dv le sm nt sz pl fe so dg pr cn en fi fo nx s0 s1 s2 s3 s4 s5 cy zr ip sp ha sc el pn : Int32} {a1 a2 a3 a4 a5 a6 a7 a8 a9 a10 a11 a12 a13 a14 a15 a16 : Nat → Int32}
theorem zq_know {x : Int32} {k : Int32} (hk : k = 0 ∨ k = 1) (h1 : a1 0 = k) (h2 : a2 0 = x.toInt16.toInt32)
    (hp : ∀ b11 b12, (k = 1 → b11 0 = 0) → b12 0 = x.toInt16.toInt32 → post (ec, lc, lv, cp, ce, dp, ng, mu, dv, le, sm, nt, sz, pl, fe, so, dg, pr, cn, en, fi, fo, nx, s0, s1, s2, s3, s4, s5, cy, zr, ip, sp, ha, sc, el, pn, a1, a2, a3, a4, a5, a6, a7, a8, a9, a10, b11, b12, a13, a14, a15, a16)) :
    wpX_know post (ec, lc, lv, cp, ce, dp, ng, mu, dv, le, sm, nt, sz, pl, fe, so, dg, pr, cn, en, fi, fo, nx, s0, s1, s2, s3, s4, s5, cy, zr, ip, sp, ha, sc, el, pn, a1, a2, a3, a4, a5, a6, a7, a8, a9, a10, a11, a12, a13, a14, a15, a16) 0 := by
  have z : (0 : Int32).toNatClampNeg = 0 := sb_cl0
  refine ⟨vp_in_iff.mpr (by decide +kernel), nm_r (e' := k) (by rw [z]; exact h1) ?_⟩
  have e12 : upd a12 (0 : Int32).toNatClampNeg (vp_nar .short (a2 (0 : Int32).toNatClampNeg)) 0 = x.toInt16.toInt32 := by
    rw [z, pk_us, h2, pk_vs]
  rcases hk with rfl | rfl
  · exact br_t rfl ⟨vp_in_iff.mpr (by decide +kernel), nm_e ⟨vp_in_iff.mpr (by decide +kernel), vp_in_iff.mpr (by decide +kernel), nm_e (br_t (by decide) (hp _ _ (fun h => absurd h (by decide)) e12))⟩⟩
  · exact br_f (by decide) ⟨vp_in_iff.mpr (by decide +kernel), nm_e ⟨vp_in_iff.mpr (by decide +kernel), vp_in_iff.mpr (by decide +kernel), nm_e (br_t (by decide) (hp _ _ (fun _ => by rw [z, pk_us]; rfl) e12))⟩⟩
theorem zq_expr {k x : Int32} (hk : (k = 0 ∧ ¬ x < -32768 ∧ ¬ 32767 < x) ∨ (k = 1 ∧ ¬ x < 0 ∧ x ≤ 7))
    (hp : ∀ b1 b2 b3 b4 b11 b12, b1 0 = k → b2 0 = x.toInt16.toInt32 → b4 0 = 1 → (k = 1 → b11 0 = 0) → b12 0 = x.toInt16.toInt32 → pst 0 (1, lc, lv, cp, ce, dp, ng, mu, dv, le, sm, nt, sz, pl, fe, so, dg, pr, cn, en, fi, fo, nx, s0, s1, s2, s3, s4, s5, cy, zr, ip, sp, ha, sc, el, pn, b1, b2, b3, b4, a5, a6, a7, a8, a9, a10, b11, b12, a13, a14, a15, a16)) :
    wpX_express pst (0, lc, lv, cp, ce, dp, ng, mu, dv, le, sm, nt, sz, pl, fe, so, dg, pr, cn, en, fi, fo, nx, s0, s1, s2, s3, s4, s5, cy, zr, ip, sp, ha, sc, el, pn, a1, a2, a3, a4, a5, a6, a7, a8, a9, a10, a11, a12, a13, a14, a15, a16) k x 0 := by
  have z : (0 : Int32).toNatClampNeg = 0 := sb_cl0
  rcases hk with ⟨rfl, h1, h2⟩ | ⟨rfl, h1, h2⟩
  · refine br_t (by decide) (br_f (by decide) (br_t (by decide) (br_t rfl (br_f h1 (br_f h2 (br_f (by decide) (br_f (by decide) (br_t (by decide) (br_t (by decide) (br_t rfl (br_t (by decide) (br_t (by decide) (br_t rfl (br_t (by decide) (nm_r (e' := 1) (by decide) ⟨vp_in_iff.mpr (by decide +kernel), nm_e ⟨vp_in_iff.mpr (by decide +kernel), nm_e ⟨vp_in_iff.mpr (by decide +kernel), nm_e ⟨vp_in_iff.mpr (by decide +kernel), nm_e ?_⟩⟩⟩⟩)))))))))))))))
    refine zq_know (x := x) (Or.inl rfl) (by rw [z, pk_us]; decide) (by rw [z, pk_us]) ?_
    intro b11 b12 e11 e12
    exact hp _ _ _ _ b11 b12 (by rw [z, pk_us]; decide) (by rw [z, pk_us]) (by rw [z, pk_us]; decide) e11 e12
  · refine br_t (by decide) (br_f (by decide) (br_t (by decide) (br_f (by decide) (br_t rfl (br_f h1 (br_t h2 (br_t (by decide) (br_t (by decide) (br_t rfl (br_t (by decide) (br_t (by decide) (br_t rfl (br_t (by decide) (nm_r (e' := 1) (by decide) ⟨vp_in_iff.mpr (by decide +kernel), nm_e ⟨vp_in_iff.mpr (by decide +kernel), nm_e ⟨vp_in_iff.mpr (by decide +kernel), nm_e ⟨vp_in_iff.mpr (by decide +kernel), nm_e ?_⟩⟩⟩⟩))))))))))))))
    refine zq_know (x := x) (Or.inr rfl) (by rw [z, pk_us]; decide) (by rw [z, pk_us]) ?_
    intro b11 b12 e11 e12
    exact hp _ _ _ _ b11 b12 (by rw [z, pk_us]; decide) (by rw [z, pk_us]) (by rw [z, pk_us]; decide) e11 e12
theorem zq_exprB {k x : Int32} (h0 : k = 0 → x < -32768 ∨ 32767 < x) (h1 : k = 1 → x < 0 ∨ 7 < x) (hp : pst (-1000) (0, lc, lv, cp, ce, dp, ng, mu, dv, le, sm, nt, sz, pl, fe, so, dg, pr, cn, en, fi, fo, nx, s0, s1, s2, s3, s4, s5, cy, zr, ip, sp, ha, sc, el, pn, a1, a2, a3, a4, a5, a6, a7, a8, a9, a10, a11, a12, a13, a14, a15, a16)) : wpX_express pst (0, lc, lv, cp, ce, dp, ng, mu, dv, le, sm, nt, sz, pl, fe, so, dg, pr, cn, en, fi, fo, nx, s0, s1, s2, s3, s4, s5, cy, zr, ip, sp, ha, sc, el, pn, a1, a2, a3, a4, a5, a6, a7, a8, a9, a10, a11, a12, a13, a14, a15, a16) k x 0 := by
  refine br_t (by decide) (br_c (fun _ => hp) (fun g1 => br_c (fun g2 => br_c (fun e0 => ?_) (fun n0 => br_c (fun e1 => ?_) (fun n1 => ?_))) (fun _ => hp)))
  · rcases h0 e0 with h | h
    · exact br_t h (br_t rfl hp)
    · by_cases g : x < -32768
      · exact br_t g (br_t rfl hp)
      · exact br_f g (br_t h (br_t rfl hp))
  · rcases h1 e1 with h | h
    · exact br_t h hp
    · by_cases g : x < 0
      · exact br_t g hp
      · exact br_f g (br_f (fun z => absurd (Int32.lt_iff_toInt_lt.mp h) (Int.not_lt.mpr (Int32.le_iff_toInt_le.mp z))) hp)
  · have n2 : ¬ k < 2 := by
      intro z
      have t1 : ¬ k.toInt < (0 : Int32).toInt := fun z => g1 (Int32.lt_iff_toInt_lt.mpr z)
      have t2 := Int32.lt_iff_toInt_lt.mp z
      have e0 : (0 : Int32).toInt = 0 := by decide
      have e1 : (1 : Int32).toInt = 1 := by decide
      have e2 : (2 : Int32).toInt = 2 := by decide
      have t3 : ¬ k.toInt = 0 := fun z => n0 (Int32.toInt_inj.mp (z.trans e0.symm))
      have t4 : ¬ k.toInt = 1 := fun z => n1 (Int32.toInt_inj.mp (z.trans e1.symm))
      omega
    refine br_f n2 ?_
    by_cases g : x < 0
    · exact br_t g (br_t rfl hp)
    · exact br_f g (br_t (by obtain ⟨j, hj, rfl⟩ := nI_of g; exact nI_pos' hj) (br_t rfl hp))
theorem zq_line (h4 : a4 0 = 1) (hp : ∀ b5 b6 b7 b8, b5 0 = 2 → b7 0 = 0 → pst 1 (1, 1, lv, 0, ce, dp, ng, mu, dv, le, sm, nt, sz, pl, fe, so, dg, pr, cn, en, fi, fo, nx, s0, s1, s2, s3, s4, s5, cy, zr, ip, sp, ha, sc, el, pn, a1, a2, a3, a4, b5, b6, b7, b8, a9, a10, a11, a12, a13, a14, a15, a16)) : wpX_line pst (1, 0, lv, cp, ce, dp, ng, mu, dv, le, sm, nt, sz, pl, fe, so, dg, pr, cn, en, fi, fo, nx, s0, s1, s2, s3, s4, s5, cy, zr, ip, sp, ha, sc, el, pn, a1, a2, a3, a4, a5, a6, a7, a8, a9, a10, a11, a12, a13, a14, a15, a16) 2 99 0 99 := by
  have z : (0 : Int32).toNatClampNeg = 0 := sb_cl0
  refine br_t (by decide) (br_f (by decide) (br_t (by decide) (br_f (by decide) (br_f (by decide) (br_f (by decide) (br_t rfl (br_t (by decide) (br_f (by decide) (br_f (by decide) (br_f (by decide) (br_f (by decide) ?_)))))))))))
  refine br_f (by decide) (br_f (by decide) (br_t rfl ?_))
  refine br_f (by decide) (br_f (by decide) (br_f (by decide) (br_t rfl ?_)))
  refine br_t (by decide) (br_f (by decide) ⟨vp_in_iff.mpr (by decide +kernel), nm_r (e' := 1) (by rw [z, h4]; decide) ?_⟩)
  refine br_f (by decide) (br_f (by decide) (br_t rfl ?_))
  refine br_t (by decide) ⟨vp_in_iff.mpr (by decide +kernel), nm_e ⟨vp_in_iff.mpr (by decide +kernel), nm_e ⟨vp_in_iff.mpr (by decide +kernel), nm_e ⟨vp_in_iff.mpr (by decide +kernel), nm_e (nm_r (e' := 1) (by decide) ?_)⟩⟩⟩⟩
  exact hp _ _ _ _ (by rw [z, pk_us]; decide) (by rw [z, pk_us]; decide)
theorem zq_lineB (hp : pst (-1000) (0, 0, lv, cp, ce, dp, ng, mu, dv, le, sm, nt, sz, pl, fe, so, dg, pr, cn, en, fi, fo, nx, s0, s1, s2, s3, s4, s5, cy, zr, ip, sp, ha, sc, el, pn, a1, a2, a3, a4, a5, a6, a7, a8, a9, a10, a11, a12, a13, a14, a15, a16)) : wpX_line pst (0, 0, lv, cp, ce, dp, ng, mu, dv, le, sm, nt, sz, pl, fe, so, dg, pr, cn, en, fi, fo, nx, s0, s1, s2, s3, s4, s5, cy, zr, ip, sp, ha, sc, el, pn, a1, a2, a3, a4, a5, a6, a7, a8, a9, a10, a11, a12, a13, a14, a15, a16) 2 99 0 99 := by
  exact br_t (by decide) (br_f (by decide) (br_t (by decide) (br_f (by decide) (br_f (by decide) (br_f (by decide) (br_t rfl (br_t (by decide) (br_f (by decide) (br_f (by decide) (br_t (by decide) (br_t rfl hp)))))))))))
theorem zq_text {q : List Nat} {k : Int32} (hq : q.length < 50) (hp : ps (zq_txt q k)) : wpX_text ps (ec, lc, lv, cp, ce, dp, ng, mu, dv, le, sm, nt, sz, pl, fe, so, dg, pr, cn, en, fi, fo, nx, s0, s1, s2, s3, s4, s5, cy, zr, ip, sp, ha, sc, el, nI q.length, a1, a2, a3, a4, a5, a6, a7, a8, a9, a10, a11, a12, a13, a14, a15, zq_tx q) k := by
  rcases pk_ix k (n := q.length) (by omega) with h | h | ⟨j, hj, rfl⟩
  · rw [show zq_txt q k = 0 from if_pos h] at hp
    exact br_t h hp
  · rw [zq_txt_out (by omega) h] at hp
    by_cases g : k < 0
    · exact br_t g hp
    · exact br_f g (br_t h hp)
  · rw [zq_txt_n q (by omega)] at hp
    refine br_f (nI_pos (by omega)) (br_f (nI_ge hj (by omega)) (br_t (show nI j ≤ nI 59 from nI_le (by omega) (by decide)) ⟨vp_in_nI (by omega) (by decide), ?_⟩))
    rw [nI_clamp (by omega)]
    exact hp
end
theorem zq_prnl (v : Nat) : (zq_prn v []).length < 50 := by
  have K : ∀ t l, (zq_dec t l).length ≤ l.length + 6 := by
    intro t l
    have k1 := zq_nll 0 10000 t l
    have k2 := zq_nll (zq_nb 0 10000 t) 1000 (t % 10000) (zq_nl 0 10000 t l)
    have k3 := zq_nll (zq_nb (zq_nb 0 10000 t) 1000 (t % 10000)) 100 (t % 10000 % 1000) (zq_nl (zq_nb 0 10000 t) 1000 (t % 10000) (zq_nl 0 10000 t l))
    have k4 := zq_nll (zq_nb (zq_nb (zq_nb 0 10000 t) 1000 (t % 10000)) 100 (t % 10000 % 1000)) 10 (t % 10000 % 1000 % 100) (zq_nl (zq_nb (zq_nb 0 10000 t) 1000 (t % 10000)) 100 (t % 10000 % 1000) (zq_nl (zq_nb 0 10000 t) 1000 (t % 10000) (zq_nl 0 10000 t l)))
    unfold zq_dec
    rw [List.length_append, List.length_append]
    simp only [List.length_cons, List.length_nil]
    omega
  unfold zq_prn
  split
  · exact Nat.lt_of_le_of_lt (K _ _) (by decide)
  · exact Nat.lt_of_le_of_lt (K _ _) (by decide)
set_option maxHeartbeats 1000000 in
theorem zq_l264 {x0 x1 x2 W o : Int32} {v lo hi' : Nat} (hk : (x0 = 0 ∧ ¬ x1 < -32768 ∧ ¬ 32767 < x1) ∨ (x0 = 1 ∧ ¬ x1 < 0 ∧ x1 ≤ 7))
    (hW : (x0 = 0 → o = 33 ∧ W = x1.toInt16.toInt32) ∧ (x0 = 1 → o = 42 ∧ W = 2 * x1.toInt16.toInt32)) (g1 : lo < 256) (g2 : hi' < 256) (hlo : W &&& 255 = nI lo) (hhi : (W >>> ((8 : Int32) &&& 31)) &&& 255 = nI hi')
    (hv : (o = 33 ∧ lo + 256 * hi' = v) ∨ (o = 42 ∧ v = 0 ∧ lo < 47 ∧ hi' = 0)) :
    wL_lawOf_264 (fun r _ => r = 1) 398 6368 x0 x1 x2 1 (nI (zq_prn v []).length) (zq_txt (zq_prn v []) x2) 0 0 := by
  refine ⟨by decide, by decide, 16, 2521, by decide, by decide, ?_⟩
  refine ⟨by decide, by decide, by decide, by decide, by decide, by decide, by decide, by decide, by decide, by decide, by decide, by decide, by decide, by decide, by decide, by decide, by decide, by decide, by decide, by decide, by decide, by decide, by decide, by decide, by decide, by decide, by decide, by decide, by decide, by decide, by decide, by decide, ?_⟩
  refine zq_expr hk ?_
  intro b1 b2 b3 b4 b11 b12 e1 e2 e4 e11 e12
  have hkd : zq_KD b1 b2 b11 b12 o W := by
    rcases hk with ⟨h, _⟩ | ⟨h, _⟩
    · exact Or.inl ⟨e1.trans h, (hW.1 h).1, (hW.1 h).2.trans e12.symm⟩
    · exact Or.inr ⟨e1.trans h, e11 h, (hW.2 h).1, by rw [e2]; exact (hW.2 h).2⟩
  refine br_f (by decide) (br_t rfl ?_)
  refine zq_line e4 ?_
  intro b5 b6 b7 b8 e5 e7
  refine br_f (by decide) (br_t rfl ?_)
  refine zq_run1 zq_g0 zq_t0 e5 e7 hkd g1 g2 hlo hhi hv ?_
  intro x
  obtain ⟨qec, qlc, qlv, qcp, qce, qdp, qng, qmu, qdv, qle, qsm, qnt, qsz, qpl, qfe, qso, qdg, qpr, qcn, qen, qfi, qfo, qnx, qs0, qs1, qs2, qs3, qs4, qs5, qcy, qzr, qip, qsp, qha, qsc, qel, qpn, qa1, qa2, qa3, qa4, qa5, qa6, qa7, qa8, qa9, qa10, qa11, qa12, qa13, qa14, qa15, qa16⟩ := x
  refine br_t rfl (br_f (by decide) (br_t rfl ?_))
  refine zq_text (zq_prnl v) ?_
  exact br_t rfl (br_f (by decide) (br_t rfl rfl))
set_option maxHeartbeats 1000000 in
theorem zq_l264n {x0 x1 x2 x12 : Int32} (h0 : x0 = 0 → x1 < -32768 ∨ 32767 < x1) (h1 : x0 = 1 → x1 < 0 ∨ 7 < x1) :
    wL_lawOf_264 (fun r _ => r = 1) 398 6368 x0 x1 x2 0 x12 0 0 0 := by
  refine ⟨by decide, by decide, 16, 2521, by decide, by decide, ?_⟩
  refine ⟨by decide, by decide, by decide, by decide, by decide, by decide, by decide, by decide, by decide, by decide, by decide, by decide, by decide, by decide, by decide, by decide, by decide, by decide, by decide, by decide, by decide, by decide, by decide, by decide, by decide, by decide, by decide, by decide, by decide, by decide, by decide, by decide, ?_⟩
  refine zq_exprB h0 h1 ?_
  refine br_t rfl (br_t rfl ?_)
  refine zq_lineB ?_
  refine br_t rfl (br_t rfl ?_)
  refine zq_run0 zq_g0 zq_t0 ?_
  intro x
  obtain ⟨qec, qlc, qlv, qcp, qce, qdp, qng, qmu, qdv, qle, qsm, qnt, qsz, qpl, qfe, qso, qdg, qpr, qcn, qen, qfi, qfo, qnx, qs0, qs1, qs2, qs3, qs4, qs5, qcy, qzr, qip, qsp, qha, qsc, qel, qpn, qa1, qa2, qa3, qa4, qa5, qa6, qa7, qa8, qa9, qa10, qa11, qa12, qa13, qa14, qa15, qa16⟩ := x
  refine br_t rfl (br_t rfl (br_t rfl ?_))
  have e : zq_txt [] x2 = 0 := by
    unfold zq_txt
    split <;> rfl
  refine zq_text (by decide) ?_
  exact br_t e (br_t rfl (br_t rfl rfl))
theorem zq_law (x0 x1 x2 : Int32) : wpL_lawOf (fun r _ => r = 1) 398 6368 () x0 x1 x2 := by
  have N : (x0 = 0 → x1 < -32768 ∨ 32767 < x1) → (x0 = 1 → x1 < 0 ∨ 7 < x1) → wL_lawOf_47 (fun r _ => r = 1) 398 6368 x0 x1 x2 0 0 0 := by
    intro h0 h1
    exact br_t rfl (br_t (by decide) (br_t (by decide) (zq_l86n (fun x12 => zq_l264n h0 h1))))
  have B : (x0 = 0 → x1 < -32768 ∨ 32767 < x1) → wL_lawOf_22 (fun r _ => r = 1) 398 6368 x0 x1 x2 0 0 := by
    intro h0
    refine br_t rfl (br_c (fun e => br_c (fun g => N h0 (fun _ => Or.inl g)) (fun g1 => br_c (fun g => N h0 (fun _ => Or.inr g)) (fun g2 => ?_))) (fun e => N h0 (fun z => absurd z e)))
    subst e
    have g3 : x1 ≤ 7 := by
      apply Int32.le_iff_toInt_le.mpr
      exact Int.not_lt.mp (fun z => g2 (Int32.lt_iff_toInt_lt.mpr z))
    obtain ⟨j, hj, ej⟩ := nI_of2 (n := 7) (by decide) g1 g3
    refine br_t rfl (br_t (by decide) (br_t (by decide) (zq_l86 (v := 0) (sg := 0) (l := []) (by decide) (Or.inl ⟨rfl, rfl⟩) ?_)))
    have ev := zq_var j (by omega)
    exact zq_l264 (v := 0) (lo := 2 * j) (hi' := 0) (o := 42) (W := nI (2 * j)) (Or.inr ⟨rfl, g1, g3⟩) ⟨fun z => absurd z (by decide), fun _ => ⟨rfl, by rw [ej]; exact ev.symm⟩⟩ (by omega) (by decide) (by rw [zq_and255 (by omega), Nat.mod_eq_of_lt (by omega)]) (by rw [zq_shr8 (by omega), show 2 * j / 256 = 0 by omega]; decide) (Or.inr ⟨rfl, rfl, by omega, rfl⟩)
  refine br_c (fun e => br_c (fun g => B (fun _ => Or.inl g)) (fun g1 => br_c (fun g => B (fun _ => Or.inr g)) (fun g2 => ?_))) (fun e => B (fun z => absurd z e))
  subst e
  refine br_f (by decide) (br_f (by decide) ?_)
  have e16 := zq_s16 g1 g2
  by_cases h : 0 ≤ x1
  · refine br_t h (br_t h ?_)
    obtain ⟨t, ht, et⟩ := nI_of (x := x1) (fun z => absurd (Int32.lt_iff_toInt_lt.mp z) (Int.not_lt.mpr (Int32.le_iff_toInt_le.mp h)))
    have ht2 : t ≤ 32767 := by
      rw [et] at g2
      rcases Nat.lt_or_ge 32767 t with z | z
      · exact absurd (nI_lt z ht) g2
      · exact z
    have q : zq_prn t [] = zq_dec t [] := if_pos (by omega)
    have L := zq_l264 (x2 := x2) (v := t) (lo := t % 256) (hi' := t / 256) (o := 33) (W := x1.toInt16.toInt32) (Or.inl ⟨rfl, g1, g2⟩) ⟨fun _ => ⟨rfl, rfl⟩, fun z => absurd z (by decide)⟩ (by omega) (by omega) (by rw [e16, et]; exact zq_loP ht2) (by rw [e16, et]; exact zq_hiP ht2) (Or.inl ⟨rfl, by omega⟩)
    rw [q] at L
    have G := zq_l86 (v := t) (sg := 0) (l := []) (by omega) (Or.inl ⟨rfl, rfl⟩) L
    rw [← et] at G
    exact G
  · refine br_f h (br_f h ?_)
    obtain ⟨t, t0, t1, et⟩ := zq_neg_of g1 h
    have q : zq_prn (65536 - t) [] = zq_dec t [45] := by
      unfold zq_prn
      rw [if_neg (by omega), show 65536 - (65536 - t) = t by omega]
      rfl
    have L := zq_l264 (x2 := x2) (v := 65536 - t) (lo := (65536 - t) % 256) (hi' := (65536 - t) / 256) (o := 33) (W := x1.toInt16.toInt32) (Or.inl ⟨rfl, g1, g2⟩) ⟨fun _ => ⟨rfl, rfl⟩, fun z => absurd z (by decide)⟩ (by omega) (by omega) (by rw [e16, et]; exact zq_loN t0 t1) (by rw [e16, et]; exact zq_hiN t0 t1) (Or.inl ⟨rfl, by omega⟩)
    rw [q] at L
    have G := zq_l86 (v := t) (sg := 1) (l := [45]) t1 (Or.inr ⟨rfl, rfl⟩) L
    have e2 : -x1 = nI t := by rw [et, Int32.neg_neg]
    rw [← e2] at G
    exact G
theorem zq_cell {ps : Int32 → Prop} {L : Nat} {xs : Nat → Int32} (i : Nat) {x : Int32} (hx : x = nI i) (hi : i < 3) (hL : L ≤ 3) (hp : ∀ r, ps r) : wpL_cellAt ps L xs () x := by
  subst hx
  exact pk_le L i (fun _ => hp 0) (fun h => ⟨vp_in_nI h (by omega), hp _⟩)
theorem i_vc (xs : Nat → Int32) (L : Nat) (hL : L ≤ 3) : wpL_law (fun r => r = 1) L xs := by
  unfold wpL_law
  refine zq_cell 0 rfl (by decide) hL ?_
  intro r1
  refine zq_cell 1 rfl (by decide) hL ?_
  intro r2
  refine zq_cell 2 rfl (by decide) hL ?_
  intro r3
  exact ⟨398, 6368, by decide, by decide, zq_law r1 r2 r3⟩
end
