section
/-! bytes and words as naturals; the memory as a picture of naturals -/
def zc_cb (b : Nat) : Int32 := (nI b).toInt8.toInt32
def zc_u (m : Nat → Nat) (n b : Nat) : Nat → Nat := fun j => if j = n then b else m j
def zc_mm (m : Nat → Nat) : Nat → Int32 := fun j => zc_cb (m j)
theorem zc_upd (m : Nat → Nat) (n b : Nat) : upd (zc_mm m) n (zc_cb b) = zc_mm (zc_u m n b) := by
  funext j
  by_cases h : j = n
  · subst h
    show upd (zc_mm m) j (zc_cb b) j = zc_cb (zc_u m j b j)
    rw [pk_us]
    unfold zc_u
    rw [if_pos rfl]
  · show upd (zc_mm m) n (zc_cb b) j = zc_cb (zc_u m n b j)
    rw [pk_un h]
    unfold zc_u
    rw [if_neg h]
    rfl
theorem zc_mm0 : (fun _ => 0 : Nat → Int32) = zc_mm (fun _ => 0) := by
  funext j
  show (0 : Int32) = zc_cb 0
  decide
theorem zc_255 {b : Nat} (h : b < 256) : zc_cb b &&& 255 = nI b := sc_k8 b h
theorem zc_4095 {n : Nat} (h : n < 4096) : nI n &&& 4095 = nI n := by
  rw [pk_andN (n := n) (m := 4095) (by omega) 12 (by decide), Nat.mod_eq_of_lt (show n < 2 ^ 12 by omega)]
theorem zc_65535 {n : Nat} (h : n < 65536) : nI n &&& 65535 = nI n := by
  rw [pk_andN (n := n) (m := 65535) (by omega) 16 (by decide), Nat.mod_eq_of_lt (show n < 2 ^ 16 by omega)]
theorem zc_or (a b : Nat) : nI a ||| nI b = nI (a ||| b) := by
  apply Int32.toBitVec_inj.mp
  rw [Int32.toBitVec_or]
  show BitVec.ofNat 32 a ||| BitVec.ofNat 32 b = BitVec.ofNat 32 (a ||| b)
  exact BitVec.ofNat_or.symm
theorem zc_word {b c : Nat} (hb : b < 256) (hc : c < 256) : nI b ||| (nI c <<< ((8 : Int32) &&& 31)) = nI (b + 256 * c) := by
  have e : b ||| c * 2 ^ 8 = b + 256 * c := by
    rw [Nat.or_comm, Nat.mul_comm c, ← Nat.two_pow_add_eq_or_of_lt (show b < 2 ^ 8 by omega)]
    omega
  rw [pk_shlN (n := c) ((8 : Int32) &&& 31) 8 (by decide) (by omega), zc_or, e]
theorem zc_lo (v : Nat) : (nI v).toInt8.toInt32 = zc_cb (v % 256) := by
  have e : (nI v).toInt8 = (nI (v % 256)).toInt8 := by
    show (Int32.ofNat v).toInt8 = (Int32.ofNat (v % 256)).toInt8
    rw [Int32.toInt8_ofNat', Int32.toInt8_ofNat']
    apply Int8.toBitVec_inj.mp
    apply BitVec.eq_of_toNat_eq
    show (BitVec.ofNat 8 v).toNat = (BitVec.ofNat 8 (v % 256)).toNat
    rw [BitVec.toNat_ofNat, BitVec.toNat_ofNat]
    omega
  unfold zc_cb
  rw [e]
theorem zc_hi {v : Nat} (h : v < 65536) : (nI v >>> ((8 : Int32) &&& 31)).toInt8.toInt32 = zc_cb (v / 256) := by
  rw [pk_shrN (n := v) (by omega) ((8 : Int32) &&& 31) 8 (by decide)]
  rfl
theorem zc_sp {s : Nat} (h : s < 65536) : (nI (s + 2) - 2) &&& 65535 = nI s := by
  have e : nI (s + 2) - 2 = nI s := by
    show nI (s + 2) - nI 2 = nI s
    rw [pk_sub (by omega)]
    rfl
  rw [e, zc_65535 h]
theorem zc_sq {s d t : Nat} {D : Int32} (hD : D = nI d) (ht : s + d = t) (h : t < 65536) : (nI s + D) &&& 65535 = nI t := by
  rw [hD, nI_add, ht, zc_65535 h]
/-- the number of the script, as a word -/
theorem zc_x {x : Int32} (h1 : ¬ x < (-32768)) (h2 : ¬ 32767 < x) : x.toInt16.toInt32 = x ∧ ∃ w : Nat, w < 65536 ∧ (x &&& 255).toInt8.toInt32 = zc_cb (w % 256) ∧ ((x >>> ((8 : Int32) &&& 31)) &&& 255).toInt8.toInt32 = zc_cb (w / 256) ∧ (nI w).toInt16.toInt32 = x := by
  have c1 : (-32768 : Int32).toInt = -32768 := by decide
  have c2 : (32767 : Int32).toInt = 32767 := by decide
  rw [Int32.lt_iff_toInt_lt, c1] at h1
  rw [Int32.lt_iff_toInt_lt, c2] at h2
  have n1 : x.toInt = if 2 * x.toBitVec.toNat < 2 ^ 32 then (x.toBitVec.toNat : Int) else (x.toBitVec.toNat : Int) - (2 ^ 32 : Nat) := BitVec.toInt_eq_toNat_cond x.toBitVec
  have n2 : (x >>> ((8 : Int32) &&& 31)).toInt = if 2 * (x >>> ((8 : Int32) &&& 31)).toBitVec.toNat < 2 ^ 32 then ((x >>> ((8 : Int32) &&& 31)).toBitVec.toNat : Int) else ((x >>> ((8 : Int32) &&& 31)).toBitVec.toNat : Int) - (2 ^ 32 : Nat) := BitVec.toInt_eq_toNat_cond (x >>> ((8 : Int32) &&& 31)).toBitVec
  have n3 : (x >>> ((8 : Int32) &&& 31)).toInt = x.toInt / 256 := by
    rw [pk_shr x ((8 : Int32) &&& 31) 8 (by decide), Int.shiftRight_eq_div_pow]
    rfl
  have b1 : x.toBitVec.toNat < 2 ^ 32 := x.toBitVec.isLt
  have b2 : (x >>> ((8 : Int32) &&& 31)).toBitVec.toNat < 2 ^ 32 := (x >>> ((8 : Int32) &&& 31)).toBitVec.isLt
  refine ⟨?_, x.toBitVec.toNat % 65536, by omega, ?_, ?_, ?_⟩
  · apply Int32.toInt_inj.mp
    rw [Int16.toInt_toInt32, Int32.toInt_toInt16, Int.bmod_def]
    split <;> omega
  · rw [pk_and x (m := 255) 8 (by decide), zc_lo]
    exact congrArg zc_cb (by omega)
  · rw [pk_and (x >>> ((8 : Int32) &&& 31)) (m := 255) 8 (by decide), zc_lo]
    refine congrArg zc_cb ?_
    split at n1 <;> split at n2 <;> omega
  · apply Int32.toInt_inj.mp
    rw [Int16.toInt_toInt32, Int32.toInt_toInt16, nI_toInt (by omega), Int.bmod_def]
    split at n1 <;> split <;> omega
end
section
section
variable {pc ec sc ch ce tk he sd ed ip eq ls hl pl ir fd st pr : Int32} {a1 a2 a3 a4 a5 a6 a7 a8 a9 a10 a11 a12 a13 a14 a15 a16 a17 a18 a19 a20 a21 : Nat → Int32} {m : Nat → Nat}
theorem zc_byteAt {post : Int32 → Prop} (n b : Nat) (hn : n < 4096) (hb : m n = b) (h2 : b < 256) (hp : post (nI b)) :
    wpX_byteAt post (pc, ec, sc, ch, ce, tk, he, sd, ed, ip, eq, ls, hl, pl, ir, fd, st, pr, a1, a2, a3, a4, a5, a6, a7, a8, a9, a10, a11, a12, a13, a14, a15, a16, a17, zc_mm m, a19, a20, a21) (nI n) := by
  have e : nI n &&& 4095 = nI n := zc_4095 hn
  have e2 : zc_mm m (nI n).toNatClampNeg &&& 255 = nI b := by
    rw [nI_clamp (by omega)]
    show zc_cb (m n) &&& 255 = nI b
    rw [hb]
    exact zc_255 h2
  unfold wpX_byteAt
  dsimp only
  rw [e, e2]
  exact ⟨pk_in n 4096 hn, hp⟩
theorem zc_wordAt {post : Int32 → Prop} (n b c : Nat) (hn : n + 1 < 4096) (hb : m n = b) (hc : m (n + 1) = c) (h2 : b < 256) (h3 : c < 256) (hp : post (nI (b + 256 * c))) :
    wpX_wordAt post (pc, ec, sc, ch, ce, tk, he, sd, ed, ip, eq, ls, hl, pl, ir, fd, st, pr, a1, a2, a3, a4, a5, a6, a7, a8, a9, a10, a11, a12, a13, a14, a15, a16, a17, zc_mm m, a19, a20, a21) (nI n) := by
  unfold wpX_wordAt
  refine zc_byteAt n b (by omega) hb h2 ?_
  rw [nI_1 n]
  refine zc_byteAt (n + 1) c hn hc h3 ?_
  rw [zc_word h2 h3]
  exact hp
theorem zc_next {post : Int32 → St2 → Prop} (n b : Nat) (hn : n < 4096) (hb : m n = b) (h2 : b < 256) (hp : post (nI b) (pc, ec, sc, ch, ce, tk, he, sd, ed, nI (n + 1), eq, ls, hl, pl, ir, fd, st, pr, a1, a2, a3, a4, a5, a6, a7, a8, a9, a10, a11, a12, a13, a14, a15, a16, a17, zc_mm m, a19, a20, a21)) :
    wpX_next post (pc, ec, sc, ch, ce, tk, he, sd, ed, nI n, eq, ls, hl, pl, ir, fd, st, pr, a1, a2, a3, a4, a5, a6, a7, a8, a9, a10, a11, a12, a13, a14, a15, a16, a17, zc_mm m, a19, a20, a21) := by
  unfold wpX_next
  exact zc_byteAt n b hn hb h2 (nm_r (nI_1 n) hp)
theorem zc_nextWord {post : Int32 → St2 → Prop} (n b c : Nat) (hn : n + 1 < 4096) (hb : m n = b) (hc : m (n + 1) = c) (h2 : b < 256) (h3 : c < 256) (hp : post (nI (b + 256 * c)) (pc, ec, sc, ch, ce, tk, he, sd, ed, nI (n + 2), eq, ls, hl, pl, ir, fd, st, pr, a1, a2, a3, a4, a5, a6, a7, a8, a9, a10, a11, a12, a13, a14, a15, a16, a17, zc_mm m, a19, a20, a21)) :
    wpX_nextWord post (pc, ec, sc, ch, ce, tk, he, sd, ed, nI n, eq, ls, hl, pl, ir, fd, st, pr, a1, a2, a3, a4, a5, a6, a7, a8, a9, a10, a11, a12, a13, a14, a15, a16, a17, zc_mm m, a19, a20, a21) := by
  unfold wpX_nextWord
  refine zc_next n b (by omega) hb h2 ?_
  refine zc_next (n + 1) c hn hc h3 ?_
  dsimp only
  rw [zc_word h2 h3]
  exact hp
theorem zc_pop {post : Int32 → St2 → Prop} (s b c : Nat) (hs : a19 4 = nI s) (hn : s + 1 < 4096) (hb : m s = b) (hc : m (s + 1) = c) (h2 : b < 256) (h3 : c < 256) (hp : post (nI (b + 256 * c)) (pc, ec, sc, ch, ce, tk, he, sd, ed, ip, eq, ls, hl, pl, ir, fd, st, pr, a1, a2, a3, a4, a5, a6, a7, a8, a9, a10, a11, a12, a13, a14, a15, a16, a17, zc_mm m, upd a19 4 (nI (s + 2)), a20, a21)) :
    wpX_pop post (pc, ec, sc, ch, ce, tk, he, sd, ed, ip, eq, ls, hl, pl, ir, fd, st, pr, a1, a2, a3, a4, a5, a6, a7, a8, a9, a10, a11, a12, a13, a14, a15, a16, a17, zc_mm m, a19, a20, a21) := by
  unfold wpX_pop
  dsimp only
  rw [hs]
  exact zc_wordAt s b c hn hb hc h2 h3 (nm_r (congrArg (upd a19 4) (zc_sq (s := s) (d := 2) (t := s + 2) rfl rfl (by omega))) hp)
theorem zc_next_2 {post : Int32 → St2 → Prop} (n b : Nat) (hn : n < 4096) (hb : m n = b) (h2 : b < 256) (hp : post (nI b) (pc, ec, sc, ch, ce, tk, he, sd, ed, nI (n + 1), eq, ls, hl, pl, ir, fd, st, pr, a1, a2, a3, a4, a5, a6, a7, a8, a9, a10, a11, a12, a13, a14, a15, a16, a17, zc_mm m, a19, a20, a21)) :
    wpX_next_2 post (pc, ec, sc, ch, ce, tk, he, sd, ed, nI n, eq, ls, hl, pl, ir, fd, st, pr, a1, a2, a3, a4, a5, a6, a7, a8, a9, a10, a11, a12, a13, a14, a15, a16, a17, zc_mm m, a19, a20, a21) := by
  unfold wpX_next_2
  exact zc_byteAt n b hn hb h2 (nm_r (nI_1 n) hp)
theorem zc_nextWord_2 {post : Int32 → St2 → Prop} (n b c : Nat) (hn : n + 1 < 4096) (hb : m n = b) (hc : m (n + 1) = c) (h2 : b < 256) (h3 : c < 256) (hp : post (nI (b + 256 * c)) (pc, ec, sc, ch, ce, tk, he, sd, ed, nI (n + 2), eq, ls, hl, pl, ir, fd, st, pr, a1, a2, a3, a4, a5, a6, a7, a8, a9, a10, a11, a12, a13, a14, a15, a16, a17, zc_mm m, a19, a20, a21)) :
    wpX_nextWord_2 post (pc, ec, sc, ch, ce, tk, he, sd, ed, nI n, eq, ls, hl, pl, ir, fd, st, pr, a1, a2, a3, a4, a5, a6, a7, a8, a9, a10, a11, a12, a13, a14, a15, a16, a17, zc_mm m, a19, a20, a21) := by
  unfold wpX_nextWord_2
  refine zc_next_2 n b (by omega) hb h2 ?_
  refine zc_next_2 (n + 1) c hn hc h3 ?_
  dsimp only
  rw [zc_word h2 h3]
  exact hp
theorem zc_pop_2 {post : Int32 → St2 → Prop} (s b c : Nat) (hs : a19 4 = nI s) (hn : s + 1 < 4096) (hb : m s = b) (hc : m (s + 1) = c) (h2 : b < 256) (h3 : c < 256) (hp : post (nI (b + 256 * c)) (pc, ec, sc, ch, ce, tk, he, sd, ed, ip, eq, ls, hl, pl, ir, fd, st, pr, a1, a2, a3, a4, a5, a6, a7, a8, a9, a10, a11, a12, a13, a14, a15, a16, a17, zc_mm m, upd a19 4 (nI (s + 2)), a20, a21)) :
    wpX_pop_2 post (pc, ec, sc, ch, ce, tk, he, sd, ed, ip, eq, ls, hl, pl, ir, fd, st, pr, a1, a2, a3, a4, a5, a6, a7, a8, a9, a10, a11, a12, a13, a14, a15, a16, a17, zc_mm m, a19, a20, a21) := by
  unfold wpX_pop_2
  dsimp only
  rw [hs]
  exact zc_wordAt s b c hn hb hc h2 h3 (nm_r (congrArg (upd a19 4) (zc_sq (s := s) (d := 2) (t := s + 2) rfl rfl (by omega))) hp)
theorem zc_setWord {post : St2 → Prop} (a v b c : Nat) (ha : a + 1 < 4096) (hv : v < 65536) (hb : v % 256 = b) (hc : v / 256 = c) (hp : post (pc, ec, sc, ch, ce, tk, he, sd, ed, ip, eq, ls, hl, pl, ir, fd, st, pr, a1, a2, a3, a4, a5, a6, a7, a8, a9, a10, a11, a12, a13, a14, a15, a16, a17, zc_mm (zc_u (zc_u m a b) (a + 1) c), a19, a20, a21)) :
    wpX_setWord post (pc, ec, sc, ch, ce, tk, he, sd, ed, ip, eq, ls, hl, pl, ir, fd, st, pr, a1, a2, a3, a4, a5, a6, a7, a8, a9, a10, a11, a12, a13, a14, a15, a16, a17, zc_mm m, a19, a20, a21) (nI a) (nI v) := by
  unfold wpX_setWord
  refine ⟨?_, nm_r (e' := zc_mm (zc_u m a b)) ?_ ⟨?_, nm_r (e' := zc_mm (zc_u (zc_u m a b) (a + 1) c)) ?_ hp⟩⟩
  · rw [zc_4095 (n := a) (by omega)]
    exact pk_in a 4096 (by omega)
  · rw [zc_4095 (n := a) (by omega), nI_clamp (n := a) (by omega), zc_lo, zc_upd, hb]
  · rw [nI_1 a, zc_4095 ha]
    exact pk_in (a + 1) 4096 ha
  · rw [nI_1 a, zc_4095 ha, nI_clamp (n := a + 1) (by omega), zc_hi hv, zc_upd, hc]
theorem zc_push {post : St2 → Prop} (s v b c : Nat) (hs : a19 4 = nI (s + 2)) (h1 : s + 1 < 4096) (hv : v < 65536) (hb : v % 256 = b) (hc : v / 256 = c) (hp : post (pc, ec, sc, ch, ce, tk, he, sd, ed, ip, eq, ls, hl, pl, ir, fd, st, pr, a1, a2, a3, a4, a5, a6, a7, a8, a9, a10, a11, a12, a13, a14, a15, a16, a17, zc_mm (zc_u (zc_u m s b) (s + 1) c), upd a19 4 (nI s), a20, a21)) :
    wpX_push post (pc, ec, sc, ch, ce, tk, he, sd, ed, ip, eq, ls, hl, pl, ir, fd, st, pr, a1, a2, a3, a4, a5, a6, a7, a8, a9, a10, a11, a12, a13, a14, a15, a16, a17, zc_mm m, a19, a20, a21) (nI v) := by
  unfold wpX_push
  refine nm_r (e' := upd a19 4 (nI s)) ?_ ?_
  · rw [hs, zc_sp (by omega)]
  · rw [pk_us]
    exact zc_setWord s v b c h1 hv hb hc hp
theorem zc_opM {post : Int32 → Prop} (a b c : Nat) (hn : a + 1 < 4096) (hb : m a = b) (hc : m (a + 1) = c) (h2 : b < 256) (h3 : c < 256) (hp : post (nI (b + 256 * c))) :
    wpX_operand post (pc, ec, sc, ch, ce, tk, he, sd, ed, ip, eq, ls, hl, nI a, 0, fd, st, pr, a1, a2, a3, a4, a5, a6, a7, a8, a9, a10, a11, a12, a13, a14, a15, a16, a17, zc_mm m, a19, a20, a21) := by
  unfold wpX_operand
  exact br_t rfl (zc_wordAt a b c hn hb hc h2 h3 hp)
theorem zc_opR {post : Int32 → Prop} (l : Nat) (v : Int32) (l8 : l < 8) (hv : a19 l = v) (hp : post v) :
    wpX_operand post (pc, ec, sc, ch, ce, tk, he, sd, ed, ip, eq, ls, hl, nI l, 1, fd, st, pr, a1, a2, a3, a4, a5, a6, a7, a8, a9, a10, a11, a12, a13, a14, a15, a16, a17, a18, a19, a20, a21) := by
  unfold wpX_operand
  refine br_f (by decide) ⟨pk_in l 8 l8, ?_⟩
  rw [nI_clamp (by omega), hv]
  exact hp
theorem zc_setM {post : St2 → Prop} (a v b c : Nat) (ha : a + 1 < 4096) (hv : v < 65536) (hb : v % 256 = b) (hc : v / 256 = c) (hp : post (pc, ec, sc, ch, ce, tk, he, sd, ed, ip, eq, ls, hl, nI a, 0, fd, st, pr, a1, a2, a3, a4, a5, a6, a7, a8, a9, a10, a11, a12, a13, a14, a15, a16, a17, zc_mm (zc_u (zc_u m a b) (a + 1) c), a19, a20, a21)) :
    wpX_setOperand post (pc, ec, sc, ch, ce, tk, he, sd, ed, ip, eq, ls, hl, nI a, 0, fd, st, pr, a1, a2, a3, a4, a5, a6, a7, a8, a9, a10, a11, a12, a13, a14, a15, a16, a17, zc_mm m, a19, a20, a21) (nI v) := by
  unfold wpX_setOperand
  exact br_t rfl (zc_setWord a v b c ha hv hb hc hp)
theorem zc_cmpL {post : St2 → Prop} {x y : Int32} (h1 : ¬ (x &&& 65535) = (y &&& 65535)) (h2 : ¬ y.toInt16.toInt32 ≤ x.toInt16.toInt32) (hp : post (pc, ec, sc, ch, ce, tk, he, sd, ed, ip, 0, 1, hl, pl, ir, fd, st, pr, a1, a2, a3, a4, a5, a6, a7, a8, a9, a10, a11, a12, a13, a14, a15, a16, a17, a18, a19, a20, a21)) :
    wpX_compare post (pc, ec, sc, ch, ce, tk, he, sd, ed, ip, eq, ls, hl, pl, ir, fd, st, pr, a1, a2, a3, a4, a5, a6, a7, a8, a9, a10, a11, a12, a13, a14, a15, a16, a17, a18, a19, a20, a21) x y := by
  unfold wpX_compare
  refine br_f h1 ?_
  unfold wX_compare_19
  exact ⟨rfl, rfl, br_f h2 hp⟩
theorem zc_cmpE {post : St2 → Prop} {x y : Int32} (h1 : (x &&& 65535) = (y &&& 65535)) (h2 : y.toInt16.toInt32 ≤ x.toInt16.toInt32) (hp : post (pc, ec, sc, ch, ce, tk, he, sd, ed, ip, 1, 0, hl, pl, ir, fd, st, pr, a1, a2, a3, a4, a5, a6, a7, a8, a9, a10, a11, a12, a13, a14, a15, a16, a17, a18, a19, a20, a21)) :
    wpX_compare post (pc, ec, sc, ch, ce, tk, he, sd, ed, ip, eq, ls, hl, pl, ir, fd, st, pr, a1, a2, a3, a4, a5, a6, a7, a8, a9, a10, a11, a12, a13, a14, a15, a16, a17, a18, a19, a20, a21) x y := by
  unfold wpX_compare
  refine br_t h1 ?_
  unfold wX_compare_19
  exact ⟨rfl, rfl, br_t h2 hp⟩
theorem zc_decM {post : St2 → Prop} (n q f b c : Nat) (hn : n + 2 < 4096) (hq : m n = q) (h0 : q < 256) (hb : m (n + 1) = b) (hc : m (n + 2) = c) (h2 : b < 256) (h3 : c < 256)
    (q1 : (nI q >>> ((3 : Int32) &&& 31)) &&& 7 = nI f) (q2 : nI q >>> ((6 : Int32) &&& 31) = 0) (q3 : nI q &&& 7 = 6)
    (hp : post (pc, ec, sc, ch, ce, tk, he, sd, ed, nI (n + 3), eq, ls, hl, nI (b + 256 * c), 0, nI f, st, pr, a1, a2, a3, a4, a5, a6, a7, a8, a9, a10, a11, a12, a13, a14, a15, a16, a17, zc_mm m, a19, a20, a21)) :
    wpX_decode post (pc, ec, sc, ch, ce, tk, he, sd, ed, nI n, eq, ls, hl, pl, ir, fd, st, pr, a1, a2, a3, a4, a5, a6, a7, a8, a9, a10, a11, a12, a13, a14, a15, a16, a17, zc_mm m, a19, a20, a21) := by
  unfold wpX_decode
  refine zc_next n q (by omega) hq h0 ?_
  refine nm_r q1 (nm_r q2 (nm_r q3 (br_f (by decide) ?_)))
  unfold wX_decode_36
  refine ⟨rfl, rfl, br_t rfl (br_t rfl (br_t rfl ?_))⟩
  exact zc_nextWord (n + 1) b c (by omega) hb hc h2 h3 hp
theorem zc_decR {post : St2 → Prop} (n q f l : Nat) (hn : n < 4096) (hq : m n = q) (h0 : q < 256)
    (q1 : (nI q >>> ((3 : Int32) &&& 31)) &&& 7 = nI f) (q2 : nI q >>> ((6 : Int32) &&& 31) = 3) (q3 : nI q &&& 7 = nI l)
    (hp : post (pc, ec, sc, ch, ce, tk, he, sd, ed, nI (n + 1), eq, ls, hl, nI l, 1, nI f, st, pr, a1, a2, a3, a4, a5, a6, a7, a8, a9, a10, a11, a12, a13, a14, a15, a16, a17, zc_mm m, a19, a20, a21)) :
    wpX_decode post (pc, ec, sc, ch, ce, tk, he, sd, ed, nI n, eq, ls, hl, pl, ir, fd, st, pr, a1, a2, a3, a4, a5, a6, a7, a8, a9, a10, a11, a12, a13, a14, a15, a16, a17, zc_mm m, a19, a20, a21) := by
  unfold wpX_decode
  refine zc_next n q hn hq h0 ?_
  refine nm_r q1 (nm_r q2 (nm_r q3 (br_t rfl ?_)))
  unfold wX_decode_36
  exact ⟨rfl, rfl, br_f (by decide) hp⟩
end
end
section
section
variable {pc ec sc ch ce tk he sd ed ip eq ls hl pl ir fd st pr : Int32} {a1 a2 a3 a4 a5 a6 a7 a8 a9 a10 a11 a12 a13 a14 a15 a16 a17 a18 a19 a20 a21 : Nat → Int32} {m : Nat → Nat}
theorem zc_put {post : St2 → Prop} {B : Int32} (n b : Nat) (hn : n < 4096) (hb : B.toInt8.toInt32 = zc_cb b) (hp : post (pc, ec, sc, ch, nI (n + 1), tk, he, sd, ed, ip, eq, ls, hl, pl, ir, fd, st, pr, a1, a2, a3, a4, a5, a6, a7, a8, a9, a10, a11, a12, a13, a14, a15, a16, a17, zc_mm (zc_u m n b), a19, a20, a21)) :
    wpX_put post (pc, ec, sc, ch, nI n, tk, he, sd, ed, ip, eq, ls, hl, pl, ir, fd, st, pr, a1, a2, a3, a4, a5, a6, a7, a8, a9, a10, a11, a12, a13, a14, a15, a16, a17, zc_mm m, a19, a20, a21) B := by
  unfold wpX_put
  exact ⟨pk_in n 4096 hn, nm_r (by rw [nI_clamp (by omega), hb, zc_upd]) (nm_r (nI_1 n) hp)⟩
theorem zc_put2 {post : St2 → Prop} {B C : Int32} (n b c : Nat) (hn : n + 1 < 4096) (hb : B.toInt8.toInt32 = zc_cb b) (hc : C.toInt8.toInt32 = zc_cb c) (hp : post (pc, ec, sc, ch, nI (n + 2), tk, he, sd, ed, ip, eq, ls, hl, pl, ir, fd, st, pr, a1, a2, a3, a4, a5, a6, a7, a8, a9, a10, a11, a12, a13, a14, a15, a16, a17, zc_mm (zc_u (zc_u m n b) (n + 1) c), a19, a20, a21)) :
    wpX_put2 post (pc, ec, sc, ch, nI n, tk, he, sd, ed, ip, eq, ls, hl, pl, ir, fd, st, pr, a1, a2, a3, a4, a5, a6, a7, a8, a9, a10, a11, a12, a13, a14, a15, a16, a17, zc_mm m, a19, a20, a21) B C := by
  unfold wpX_put2
  exact zc_put n b (by omega) hb (zc_put (n + 1) c hn hc hp)
theorem zc_put3 {post : St2 → Prop} {B C D : Int32} (n b c d : Nat) (hn : n + 2 < 4096) (hb : B.toInt8.toInt32 = zc_cb b) (hc : C.toInt8.toInt32 = zc_cb c) (hd : D.toInt8.toInt32 = zc_cb d) (hp : post (pc, ec, sc, ch, nI (n + 3), tk, he, sd, ed, ip, eq, ls, hl, pl, ir, fd, st, pr, a1, a2, a3, a4, a5, a6, a7, a8, a9, a10, a11, a12, a13, a14, a15, a16, a17, zc_mm (zc_u (zc_u (zc_u m n b) (n + 1) c) (n + 2) d), a19, a20, a21)) :
    wpX_put3 post (pc, ec, sc, ch, nI n, tk, he, sd, ed, ip, eq, ls, hl, pl, ir, fd, st, pr, a1, a2, a3, a4, a5, a6, a7, a8, a9, a10, a11, a12, a13, a14, a15, a16, a17, zc_mm m, a19, a20, a21) B C D := by
  unfold wpX_put3
  exact zc_put n b (by omega) hb (zc_put (n + 1) c (by omega) hc (zc_put (n + 2) d hn hd hp))
theorem zc_putWord {post : St2 → Prop} {w : Int32} (n b c : Nat) (hn : n + 1 < 4096) (hb : (w &&& 255).toInt8.toInt32 = zc_cb b) (hc : ((w >>> ((8 : Int32) &&& 31)) &&& 255).toInt8.toInt32 = zc_cb c) (hp : post (pc, ec, sc, ch, nI (n + 2), tk, he, sd, ed, ip, eq, ls, hl, pl, ir, fd, st, pr, a1, a2, a3, a4, a5, a6, a7, a8, a9, a10, a11, a12, a13, a14, a15, a16, a17, zc_mm (zc_u (zc_u m n b) (n + 1) c), a19, a20, a21)) :
    wpX_putWord post (pc, ec, sc, ch, nI n, tk, he, sd, ed, ip, eq, ls, hl, pl, ir, fd, st, pr, a1, a2, a3, a4, a5, a6, a7, a8, a9, a10, a11, a12, a13, a14, a15, a16, a17, zc_mm m, a19, a20, a21) w := by
  unfold wpX_putWord
  exact zc_put n b (by omega) hb (zc_put (n + 1) c hn hc hp)
theorem zc_loadNumber {post : St2 → Prop} {w : Int32} (n b c : Nat) (hn : n + 2 < 4096) (hb : (w &&& 255).toInt8.toInt32 = zc_cb b) (hc : ((w >>> ((8 : Int32) &&& 31)) &&& 255).toInt8.toInt32 = zc_cb c) (hp : post (pc, ec, sc, ch, nI (n + 3), tk, he, sd, ed, ip, eq, ls, hl, pl, ir, fd, st, pr, a1, a2, a3, a4, a5, a6, a7, a8, a9, a10, a11, a12, a13, a14, a15, a16, a17, zc_mm (zc_u (zc_u (zc_u m n 184) (n + 1) b) (n + 2) c), a19, a20, a21)) :
    wpX_loadNumber post (pc, ec, sc, ch, nI n, tk, he, sd, ed, ip, eq, ls, hl, pl, ir, fd, st, pr, a1, a2, a3, a4, a5, a6, a7, a8, a9, a10, a11, a12, a13, a14, a15, a16, a17, zc_mm m, a19, a20, a21) 0 w := by
  unfold wpX_loadNumber
  exact zc_put n 184 (by omega) (by decide) (zc_putWord (n + 1) b c (by omega) hb hc hp)
theorem zc_stop {post : St2 → Prop} {w : Int32} (n b c : Nat) (hn : n + 4 < 4096) (hb : (w &&& 255).toInt8.toInt32 = zc_cb b) (hc : ((w >>> ((8 : Int32) &&& 31)) &&& 255).toInt8.toInt32 = zc_cb c) (hp : post (pc, ec, sc, ch, nI (n + 5), tk, he, sd, ed, ip, eq, ls, hl, pl, ir, fd, st, pr, a1, a2, a3, a4, a5, a6, a7, a8, a9, a10, a11, a12, a13, a14, a15, a16, a17, zc_mm (zc_u (zc_u (zc_u (zc_u (zc_u m n 184) (n + 1) b) (n + 2) c) (n + 3) 205) (n + 4) 0), a19, a20, a21)) :
    wpX_stop post (pc, ec, sc, ch, nI n, tk, he, sd, ed, ip, eq, ls, hl, pl, ir, fd, st, pr, a1, a2, a3, a4, a5, a6, a7, a8, a9, a10, a11, a12, a13, a14, a15, a16, a17, zc_mm m, a19, a20, a21) w := by
  unfold wpX_stop
  exact zc_loadNumber n b c (by omega) hb hc (zc_put2 (n + 3) 205 0 (by omega) (by decide) (by decide) hp)
theorem zc_callTo {post : St2 → Prop} {w : Int32} (n b c : Nat) (hn : n + 2 < 4096) (hb : (((w - nI (n + 1)) - 2) &&& 255).toInt8.toInt32 = zc_cb b) (hc : ((((w - nI (n + 1)) - 2) >>> ((8 : Int32) &&& 31)) &&& 255).toInt8.toInt32 = zc_cb c) (hp : post (pc, ec, sc, ch, nI (n + 3), tk, he, sd, ed, ip, eq, ls, hl, pl, ir, fd, st, pr, a1, a2, a3, a4, a5, a6, a7, a8, a9, a10, a11, a12, a13, a14, a15, a16, a17, zc_mm (zc_u (zc_u (zc_u m n 232) (n + 1) b) (n + 2) c), a19, a20, a21)) :
    wpX_callTo post (pc, ec, sc, ch, nI n, tk, he, sd, ed, ip, eq, ls, hl, pl, ir, fd, st, pr, a1, a2, a3, a4, a5, a6, a7, a8, a9, a10, a11, a12, a13, a14, a15, a16, a17, zc_mm m, a19, a20, a21) w := by
  unfold wpX_callTo
  exact zc_put n 232 (by omega) (by decide) (zc_putWord (n + 1) b c (by omega) hb hc hp)
theorem zc_enterState {post : St2 → Prop} (hp : post (pc, ec, sc, ch, ce, tk, he, 1, ed, ip, eq, ls, hl, pl, ir, fd, st, pr, a1, a2, a3, a4, a5, a6, a7, a8, a9, a10, a11, a12, upd a13 0 0, upd a14 0 0, a15, a16, a17, a18, a19, a20, a21)) :
    wpX_enterState post (pc, ec, sc, ch, ce, tk, he, 0, ed, ip, eq, ls, hl, pl, ir, fd, st, pr, a1, a2, a3, a4, a5, a6, a7, a8, a9, a10, a11, a12, a13, a14, a15, a16, a17, a18, a19, a20, a21) 0 := by
  unfold wpX_enterState
  exact ⟨pk_in 0 20 (by decide), nm_r (e' := upd a13 0 0) (by rw [sb_cl0]; rfl) ⟨pk_in 0 20 (by decide), nm_r (e' := upd a14 0 0) (by rw [sb_cl0]) (nm_r (e' := 1) (by decide) hp)⟩⟩
theorem zc_enterExpression {post : St2 → Prop} (hp : post (pc, ec, sc, ch, ce, tk, he, sd, 1, ip, eq, ls, hl, pl, ir, fd, st, pr, a1, a2, a3, a4, a5, a6, a7, a8, a9, a10, a11, a12, a13, a14, a15, upd a16 0 0, upd a17 0 0, a18, a19, a20, a21)) :
    wpX_enterExpression post (pc, ec, sc, ch, ce, tk, he, sd, 0, ip, eq, ls, hl, pl, ir, fd, st, pr, a1, a2, a3, a4, a5, a6, a7, a8, a9, a10, a11, a12, a13, a14, a15, a16, a17, a18, a19, a20, a21) 0 := by
  unfold wpX_enterExpression
  exact ⟨pk_in 0 20 (by decide), nm_r (e' := upd a16 0 0) (by rw [sb_cl0]; rfl) ⟨pk_in 0 20 (by decide), nm_r (e' := upd a17 0 0) (by rw [sb_cl0]) (nm_r (e' := 1) (by decide) hp)⟩⟩
theorem zc_modeOf {post : Int32 → Prop} (k : Int32) (hk : k = 0 ∨ k = 1) (h : a2 0 = 0) (hp : post 0) : wpX_modeOf post (pc, ec, sc, ch, ce, tk, he, sd, ed, ip, eq, ls, hl, pl, ir, fd, st, pr, a1, a2, a3, a4, a5, a6, a7, a8, a9, a10, a11, a12, a13, a14, a15, a16, a17, a18, a19, a20, a21) 0 k := by
  have e : a2 (0 : Int32).toNatClampNeg = 0 := by rw [sb_cl0]; exact h
  have d : ¬ (3 : Int32) = 0 := by decide
  unfold wpX_modeOf
  dsimp only
  rw [e]
  rcases hk with z | z
  · exact br_t z ⟨pk_in 0 5 (by decide), d, hp⟩
  · exact br_f (by rw [z]; decide) ⟨pk_in 0 5 (by decide), d, hp⟩
theorem zc_sizeOf {post : Int32 → Prop} (k : Int32) (hk : k = 0 ∨ k = 1) (h : a2 0 = 0) (hp : post 0) : wpX_sizeOf post (pc, ec, sc, ch, ce, tk, he, sd, ed, ip, eq, ls, hl, pl, ir, fd, st, pr, a1, a2, a3, a4, a5, a6, a7, a8, a9, a10, a11, a12, a13, a14, a15, a16, a17, a18, a19, a20, a21) 0 k := by
  unfold wpX_sizeOf
  exact zc_modeOf k hk h (br_f (by decide) hp)
end
end
section
/-- what the compiler writes: the two bytes of the number are lo and hi -/
def zc_head : Nat → Nat := zc_u (zc_u (zc_u (zc_u (zc_u (zc_u (zc_u (zc_u (zc_u (zc_u (zc_u (zc_u (zc_u (zc_u (zc_u (zc_u (zc_u (zc_u (zc_u (zc_u (zc_u (zc_u (zc_u (zc_u (zc_u (zc_u (zc_u (zc_u (zc_u (zc_u (fun _ => 0) 64 80) 65 139) 66 54) 67 32) 68 0) 69 255) 70 214) 71 184) 72 0) 73 0) 74 205) 75 0) 76 129) 77 62) 78 2) 79 0) 80 244) 81 1) 82 124) 83 5) 84 184) 85 1) 86 0) 87 205) 88 0) 89 255) 90 6) 91 2) 92 0) 93 195
def zc_code (lo hi : Nat) : Nat → Nat := zc_u (zc_u (zc_u (zc_u (zc_u (zc_u (zc_u (zc_u (zc_u (zc_u (zc_u (zc_u (zc_u (zc_u (zc_u (zc_u (zc_u (zc_u (zc_u (zc_u (zc_u (zc_u (zc_u (zc_u (zc_u (zc_u (zc_u (zc_u (zc_u (zc_u (zc_u (zc_u (zc_u (zc_u (zc_u (zc_u (zc_u (zc_u (zc_u (zc_u (zc_u (zc_u (zc_u (zc_u (zc_head) 32 94) 33 0) 94 85) 95 139) 96 236) 97 131) 98 62) 99 4) 100 0) 101 12) 102 124) 103 5) 104 184) 105 2) 106 0) 107 205) 108 0) 109 255) 110 6) 111 4) 112 0) 113 51) 114 192) 115 80) 116 80) 117 80) 118 232) 119 211) 120 255) 121 184) 122 lo) 123 hi) 124 205) 125 1) 126 139) 127 229) 128 255) 129 14) 130 4) 131 0) 132 93) 133 194) 134 2) 135 0
section
variable {pc ec sc ch ce tk he sd ed ip eq ls hl pl ir fd st pr : Int32} {a1 a2 a3 a4 a5 a6 a7 a8 a9 a10 a11 a12 a13 a14 a15 a16 a17 a18 a19 a20 a21 : Nat → Int32} {m : Nat → Nat}
theorem zc_expr {post : St2 → Prop} (n lo hi : Nat) (hn : n + 2 < 4096) (h4 : a4 0 = 0) (xl : (a5 0 &&& 255).toInt8.toInt32 = zc_cb lo) (xh : ((a5 0 >>> ((8 : Int32) &&& 31)) &&& 255).toInt8.toInt32 = zc_cb hi)
    (hp : ∀ (ed : Int32) (a16 a17 : Nat → Int32), post (pc, ec, sc, ch, nI (n + 3), tk, he, sd, ed, ip, eq, ls, hl, pl, ir, fd, st, pr, a1, a2, a3, a4, a5, a6, a7, a8, a9, a10, a11, a12, a13, a14, a15, a16, a17, zc_mm (zc_u (zc_u (zc_u m n 184) (n + 1) lo) (n + 2) hi), a19, a20, a21)) :
    wpX_compileExpression post (pc, ec, sc, ch, nI n, tk, he, sd, ed, ip, eq, ls, hl, pl, ir, fd, st, pr, a1, a2, a3, a4, a5, a6, a7, a8, a9, a10, a11, a12, a13, a14, a15, a16, a17, zc_mm m, a19, a20, a21) 0 := by
  have k4 : a4 (0 : Int32).toNatClampNeg = 0 := by rw [sb_cl0]; exact h4
  have kl : (a5 (0 : Int32).toNatClampNeg &&& 255).toInt8.toInt32 = zc_cb lo := by rw [sb_cl0]; exact xl
  have kh : ((a5 (0 : Int32).toNatClampNeg >>> ((8 : Int32) &&& 31)) &&& 255).toInt8.toInt32 = zc_cb hi := by rw [sb_cl0]; exact xh
  unfold wpX_compileExpression
  refine zc_enterExpression ?_
  refine ⟨2, br_f (by decide) (nm_r (e' := 0) (by decide) ⟨pk_in 0 20 (by decide), nm_r (e' := 0) (by rw [sb_cl0, pk_us]) ⟨pk_in 0 50 (by decide), nm_r (e' := 0) k4 ⟨pk_in 0 20 (by decide), nm_e ⟨pk_in 0 20 (by decide), pk_in 0 20 (by decide), nm_e (br_t rfl ?_)⟩⟩⟩⟩)⟩
  unfold wX_compileExpression_69
  refine nm_r (e' := 0) (by decide) (br_t rfl ⟨pk_in 0 50 (by decide), ?_⟩)
  refine zc_loadNumber n lo hi hn kl kh ?_
  exact br_t (by decide) (hp _ _ _)
theorem zc_plain {post : St2 → Prop} (lo hi : Nat) (h9 : a9 0 = 0) (h4 : a4 0 = 0) (xl : (a5 0 &&& 255).toInt8.toInt32 = zc_cb lo) (xh : ((a5 0 >>> ((8 : Int32) &&& 31)) &&& 255).toInt8.toInt32 = zc_cb hi)
    (hp : ∀ (ed : Int32) (a16 a17 : Nat → Int32), post (pc, ec, sc, ch, nI 126, nI 76, he, sd, ed, ip, eq, ls, hl, pl, ir, fd, st, pr, a1, a2, a3, a4, a5, a6, a7, a8, a9, a10, a11, a12, a13, a14, a15, a16, a17, zc_mm (zc_u (zc_u (zc_u (zc_u (zc_u (zc_u (zc_u (zc_u (m) 118 232) 119 211) 120 255) 121 184) 122 lo) 123 hi) 124 205) 125 1), a19, a20, a21)) :
    wpX_compilePlain post (pc, ec, sc, ch, nI 118, nI 76, he, sd, ed, ip, eq, ls, hl, pl, ir, fd, st, pr, a1, a2, a3, a4, a5, a6, a7, a8, a9, a10, a11, a12, a13, a14, a15, a16, a17, zc_mm m, a19, a20, a21) 0 4 := by
  have k9 : a9 (0 : Int32).toNatClampNeg = 0 := by rw [sb_cl0]; exact h9
  unfold wpX_compilePlain
  refine br_f (by decide) ?_
  refine zc_callTo 118 211 255 (by decide) (by decide) (by decide) ?_
  refine br_f (by decide) (br_f (by decide) ⟨pk_in 0 40 (by decide), ?_⟩)
  unfold wX_compilePlain_46
  rw [k9]
  refine zc_expr 121 lo hi (by decide) h4 xl xh (fun ed a16 a17 => ?_)
  refine br_t rfl ?_
  exact zc_put2 124 205 1 (by decide) (by decide) (by decide) (hp ed a16 a17)
theorem zc_cstate {post : St2 → Prop} (lo hi : Nat) (h8 : a8 0 = 4) (h9 : a9 0 = 0) (h4 : a4 0 = 0) (xl : (a5 0 &&& 255).toInt8.toInt32 = zc_cb lo) (xh : ((a5 0 >>> ((8 : Int32) &&& 31)) &&& 255).toInt8.toInt32 = zc_cb hi)
    (hp : ∀ (sd ed : Int32) (a13 a14 a16 a17 : Nat → Int32), post (pc, ec, sc, ch, nI 126, nI 76, he, sd, ed, ip, eq, ls, hl, pl, ir, fd, st, pr, a1, a2, a3, a4, a5, a6, a7, a8, a9, a10, a11, a12, a13, a14, a15, a16, a17, zc_mm (zc_u (zc_u (zc_u (zc_u (zc_u (zc_u (zc_u (zc_u (m) 118 232) 119 211) 120 255) 121 184) 122 lo) 123 hi) 124 205) 125 1), a19, a20, a21)) :
    wpX_compileState post (pc, ec, sc, ch, nI 118, nI 76, he, sd, ed, ip, eq, ls, hl, pl, ir, fd, st, pr, a1, a2, a3, a4, a5, a6, a7, a8, a9, a10, a11, a12, a13, a14, a15, a16, a17, zc_mm m, a19, a20, a21) 0 := by
  have k8 : a8 (0 : Int32).toNatClampNeg = 4 := by rw [sb_cl0]; exact h8
  unfold wpX_compileState
  refine zc_enterState ?_
  refine ⟨2, br_f (by decide) (nm_r (e' := 0) (by decide) ⟨pk_in 0 20 (by decide), nm_r (e' := 0) (by rw [sb_cl0, pk_us]) ⟨pk_in 0 40 (by decide), nm_r (e' := 4) k8 ⟨pk_in 0 20 (by decide), nm_e ⟨pk_in 0 20 (by decide), pk_in 0 20 (by decide), nm_e (br_f (by decide) (br_f (by decide) (br_f (by decide) (nm_r (e' := 0) (by decide) ?_))))⟩⟩⟩⟩)⟩
  refine zc_plain lo hi h9 h4 xl xh (fun ed a16 a17 => ?_)
  exact br_t (by decide) (hp _ _ _ _ _ _)
theorem zc_proc {post : St2 → Prop} (lo hi : Nat) (h2 : a2 0 = 0) (h3 : a3 0 = 0) (h8 : a8 0 = 4) (h9 : a9 0 = 0) (h4 : a4 0 = 0) (xl : (a5 0 &&& 255).toInt8.toInt32 = zc_cb lo) (xh : ((a5 0 >>> ((8 : Int32) &&& 31)) &&& 255).toInt8.toInt32 = zc_cb hi)
    (hp : ∀ (he sd ed : Int32) (a13 a14 a16 a17 : Nat → Int32), post (pc, ec, sc, ch, nI 136, nI 76, he, sd, ed, ip, eq, ls, hl, pl, ir, fd, st, pr, a1, a2, a3, a4, a5, a6, a7, a8, a9, a10, a11, a12, a13, a14, a15, a16, a17, zc_mm (zc_code lo hi), a19, a20, a21)) :
    wpX_compileProcedure post (pc, ec, sc, ch, nI 94, nI 76, he, sd, ed, ip, eq, ls, hl, pl, ir, fd, st, pr, a1, a2, a3, a4, a5, a6, a7, a8, a9, a10, a11, a12, a13, a14, a15, a16, a17, zc_mm zc_head, a19, a20, a21) 0 := by
  have k3 : a3 (0 : Int32).toNatClampNeg = 0 := by rw [sb_cl0]; exact h3
  unfold wpX_compileProcedure
  refine zc_setWord 32 94 94 0 (by decide) (by decide) (by decide) (by decide) ?_
  refine zc_put 94 85 (by decide) (by decide) ?_
  refine zc_put2 95 139 236 (by decide) (by decide) (by decide) ?_
  refine zc_put2 97 131 62 (by decide) (by decide) (by decide) ?_
  refine zc_putWord 99 4 0 (by decide) (by decide) (by decide) ?_
  refine zc_put 101 12 (by decide) (by decide) ?_
  refine zc_put2 102 124 5 (by decide) (by decide) (by decide) ?_
  refine zc_stop 104 2 0 (by decide) (by decide) (by decide) ?_
  refine zc_put2 109 255 6 (by decide) (by decide) (by decide) ?_
  refine zc_putWord 111 4 0 (by decide) (by decide) (by decide) ?_
  refine zc_put2 113 51 192 (by decide) (by decide) (by decide) ?_
  refine zc_put3 115 80 80 80 (by decide) (by decide) (by decide) (by decide) ?_
  refine ⟨pk_in 0 5 (by decide), ?_⟩
  rw [k3]
  refine zc_cstate lo hi h8 h9 h4 xl xh (fun sd ed a13 a14 a16 a17 => ?_)
  refine zc_put2 126 139 229 (by decide) (by decide) (by decide) ?_
  refine zc_put2 128 255 14 (by decide) (by decide) (by decide) ?_
  refine zc_putWord 130 4 0 (by decide) (by decide) (by decide) ?_
  refine zc_put 132 93 (by decide) (by decide) ?_
  refine zc_put 133 194 (by decide) (by decide) ?_
  refine zc_sizeOf 0 (Or.inl rfl) h2 ?_
  refine zc_sizeOf 1 (Or.inr rfl) h2 ?_
  refine nm_r (e' := 2) (by decide) ?_
  refine zc_putWord 134 2 0 (by decide) (by decide) (by decide) ?_
  exact hp _ _ _ _ _ _ _
theorem zc_compile {post : St2 → Prop} (lo hi : Nat) (h2 : a2 0 = 0) (h3 : a3 0 = 0) (h8 : a8 0 = 4) (h9 : a9 0 = 0) (h4 : a4 0 = 0) (xl : (a5 0 &&& 255).toInt8.toInt32 = zc_cb lo) (xh : ((a5 0 >>> ((8 : Int32) &&& 31)) &&& 255).toInt8.toInt32 = zc_cb hi)
    (hp : ∀ (he sd ed : Int32) (a13 a14 a16 a17 : Nat → Int32), post (1, ec, sc, 0, nI 136, nI 76, he, sd, ed, ip, eq, ls, hl, pl, ir, fd, st, pr, a1, a2, a3, a4, a5, a6, a7, a8, a9, a10, a11, a12, a13, a14, a15, a16, a17, zc_mm (zc_code lo hi), a19, a20, a21)) :
    wpX_compile post (1, ec, sc, ch, ce, tk, he, sd, ed, ip, eq, ls, hl, pl, ir, fd, st, pr, a1, a2, a3, a4, a5, a6, a7, a8, a9, a10, a11, a12, a13, a14, a15, a16, a17, zc_mm (fun _ => 0), a19, a20, a21) := by
  unfold wpX_compile
  refine zc_put 64 80 (by decide) (by decide) ?_
  refine zc_put2 65 139 54 (by decide) (by decide) (by decide) ?_
  refine zc_putWord 67 32 0 (by decide) (by decide) (by decide) ?_
  refine zc_put2 69 255 214 (by decide) (by decide) (by decide) ?_
  refine zc_stop 71 0 0 (by decide) (by decide) (by decide) ?_
  refine zc_put2 76 129 62 (by decide) (by decide) (by decide) ?_
  refine zc_putWord 78 2 0 (by decide) (by decide) (by decide) ?_
  refine zc_putWord 80 244 1 (by decide) (by decide) (by decide) ?_
  refine zc_put2 82 124 5 (by decide) (by decide) (by decide) ?_
  refine zc_stop 84 1 0 (by decide) (by decide) (by decide) ?_
  refine zc_put2 89 255 6 (by decide) (by decide) (by decide) ?_
  refine zc_putWord 91 2 0 (by decide) (by decide) (by decide) ?_
  refine zc_put 93 195 (by decide) (by decide) ?_
  refine ⟨2, br_f (by decide) ?_⟩
  refine zc_proc lo hi h2 h3 h8 h9 h4 xl xh (fun he sd ed a13 a14 a16 a17 => ?_)
  refine nm_r (e' := 1) (by decide) ?_
  exact br_t (by decide) (hp _ _ _ _ _ _ _)
end
end
section
/-- the machine's loop, its state as one thing -/
def zc_W (post : Int32 → St2 → Prop) (n : Nat) (u : St2) : Prop := match u with
  | (pc, ec, sc, ch, ce, tk, he, sd, ed, ip, eq, ls, hl, pl, ir, fd, st, pr, a1, a2, a3, a4, a5, a6, a7, a8, a9, a10, a11, a12, a13, a14, a15, a16, a17, a18, a19, a20, a21) => wX_run_90 post n pc ec sc ch ce tk he sd ed ip eq ls hl pl ir fd st pr a1 a2 a3 a4 a5 a6 a7 a8 a9 a10 a11 a12 a13 a14 a15 a16 a17 a18 a19 a20 a21
section
variable {pc ec sc ch ce tk he sd ed ip eq ls hl pl ir fd st pr : Int32} {a1 a2 a3 a4 a5 a6 a7 a8 a9 a10 a11 a12 a13 a14 a15 a16 a17 a18 a19 a20 a21 : Nat → Int32} {m : Nat → Nat}
theorem zc_Wi {post : Int32 → St2 → Prop} {n : Nat} (h : zc_W post n (pc, ec, sc, ch, ce, tk, he, sd, ed, ip, eq, ls, hl, pl, ir, fd, st, pr, a1, a2, a3, a4, a5, a6, a7, a8, a9, a10, a11, a12, a13, a14, a15, a16, a17, a18, a19, a20, a21)) : wX_run_90 post n pc ec sc ch ce tk he sd ed ip eq ls hl pl ir fd st pr a1 a2 a3 a4 a5 a6 a7 a8 a9 a10 a11 a12 a13 a14 a15 a16 a17 a18 a19 a20 a21 := h
theorem zc_go {post : Int32 → St2 → Prop} {n : Nat} (h : wpX_step (zc_W post n) (pc, ec, sc, ch, ce, tk, he, sd, ed, ip, eq, ls, 0, pl, ir, fd, st, pr, a1, a2, a3, a4, a5, a6, a7, a8, a9, a10, a11, a12, a13, a14, a15, a16, a17, a18, a19, a20, a21)) : zc_W post (n + 1) (pc, ec, sc, ch, ce, tk, he, sd, ed, ip, eq, ls, 0, pl, ir, fd, st, pr, a1, a2, a3, a4, a5, a6, a7, a8, a9, a10, a11, a12, a13, a14, a15, a16, a17, a18, a19, a20, a21) := by
  show wX_run_90 post (n + 1) pc ec sc ch ce tk he sd ed ip eq ls 0 pl ir fd st pr a1 a2 a3 a4 a5 a6 a7 a8 a9 a10 a11 a12 a13 a14 a15 a16 a17 a18 a19 a20 a21
  exact br_t rfl h
theorem zc_push80 {post : Int32 → St2 → Prop} {n : Nat} (p v s g k : Nat) (p0 : p + 8 < 4096) (o0 : m p = 80) (hr : a19 0 = nI v) (hs : a19 4 = nI (s + 2)) (hs1 : s + 1 < 4096) (hv : v < 65536) (hg : v % 256 = g) (hk : v / 256 = k)
    (h : zc_W post n (pc, ec, sc, ch, ce, tk, he, sd, ed, nI (p + 1), eq, ls, 0, pl, ir, fd, st, pr, a1, a2, a3, a4, a5, a6, a7, a8, a9, a10, a11, a12, a13, a14, a15, a16, a17, zc_mm (zc_u (zc_u m s g) (s + 1) k), upd a19 4 (nI s), a20, a21)) :
    zc_W post (n + 1) (pc, ec, sc, ch, ce, tk, he, sd, ed, nI p, eq, ls, 0, pl, ir, fd, st, pr, a1, a2, a3, a4, a5, a6, a7, a8, a9, a10, a11, a12, a13, a14, a15, a16, a17, zc_mm m, a19, a20, a21) := by
  refine zc_go ?_
  unfold wpX_step
  refine zc_next p 80 (by omega) o0 (by decide) ?_
  refine br_f (by decide) (br_f (by decide) ⟨vp_in_iff.mpr (by decide), ?_⟩)
  have e : a19 (nI 80 - 80).toNatClampNeg = nI v := by
    rw [show (nI 80 - 80).toNatClampNeg = 0 by decide]
    exact hr
  rw [e]
  exact zc_push s v g k hs hs1 hv hg hk h
theorem zc_push85 {post : Int32 → St2 → Prop} {n : Nat} (p v s g k : Nat) (p0 : p + 8 < 4096) (o0 : m p = 85) (hr : a19 5 = nI v) (hs : a19 4 = nI (s + 2)) (hs1 : s + 1 < 4096) (hv : v < 65536) (hg : v % 256 = g) (hk : v / 256 = k)
    (h : zc_W post n (pc, ec, sc, ch, ce, tk, he, sd, ed, nI (p + 1), eq, ls, 0, pl, ir, fd, st, pr, a1, a2, a3, a4, a5, a6, a7, a8, a9, a10, a11, a12, a13, a14, a15, a16, a17, zc_mm (zc_u (zc_u m s g) (s + 1) k), upd a19 4 (nI s), a20, a21)) :
    zc_W post (n + 1) (pc, ec, sc, ch, ce, tk, he, sd, ed, nI p, eq, ls, 0, pl, ir, fd, st, pr, a1, a2, a3, a4, a5, a6, a7, a8, a9, a10, a11, a12, a13, a14, a15, a16, a17, zc_mm m, a19, a20, a21) := by
  refine zc_go ?_
  unfold wpX_step
  refine zc_next p 85 (by omega) o0 (by decide) ?_
  refine br_f (by decide) (br_f (by decide) ⟨vp_in_iff.mpr (by decide), ?_⟩)
  have e : a19 (nI 85 - 80).toNatClampNeg = nI v := by
    rw [show (nI 85 - 80).toNatClampNeg = 5 by decide]
    exact hr
  rw [e]
  exact zc_push s v g k hs hs1 hv hg hk h
theorem zc_movM {post : Int32 → St2 → Prop} {n : Nat} (p q f b c d e : Nat) (p0 : p + 8 < 4096) (o0 : m p = 139) (o1 : m (p + 1) = q) (o2 : m (p + 2) = b) (o3 : m (p + 3) = c) (z_q : q < 256) (z_b : b < 256) (z_c : c < 256) (z_d : d < 256) (z_e : e < 256) (hf : f < 8) (q1 : (nI q >>> ((3 : Int32) &&& 31)) &&& 7 = nI f) (q2 : nI q >>> ((6 : Int32) &&& 31) = 0) (q3 : nI q &&& 7 = 6) (m1 : m (b + 256 * c) = d) (m2 : m (b + 256 * c + 1) = e) (ha : b + 256 * c + 1 < 4096)
    (h : zc_W post n (pc, ec, sc, ch, ce, tk, he, sd, ed, nI (p + 4), eq, ls, 0, nI (b + 256 * c), 0, nI f, st, pr, a1, a2, a3, a4, a5, a6, a7, a8, a9, a10, a11, a12, a13, a14, a15, a16, a17, zc_mm m, upd a19 f (nI (d + 256 * e)), a20, a21)) :
    zc_W post (n + 1) (pc, ec, sc, ch, ce, tk, he, sd, ed, nI p, eq, ls, 0, pl, ir, fd, st, pr, a1, a2, a3, a4, a5, a6, a7, a8, a9, a10, a11, a12, a13, a14, a15, a16, a17, zc_mm m, a19, a20, a21) := by
  refine zc_go ?_
  unfold wpX_step
  refine zc_next p 139 (by omega) o0 (by decide) ?_
  refine br_f (by decide) (br_t (by decide) (br_f (by decide) (br_t (by decide) (br_t (by decide) (br_f (by decide) (br_f (by decide) (br_f (by decide) (br_f (by decide) (br_f (by decide) (br_f (by decide) (br_f (by decide) (br_f (by decide) ?_))))))))))))
  unfold wpX_stepWithPlace
  refine zc_decM (p + 1) q f b c (by omega) o1 z_q o2 o3 z_b z_c q1 q2 q3 ?_
  refine br_t (by decide) ?_
  refine zc_opM (b + 256 * c) d e ha m1 m2 z_d z_e ?_
  refine ⟨pk_in f 8 hf, nm_r (e' := upd a19 f (nI (d + 256 * e))) (by rw [nI_clamp (by omega)]) ?_⟩
  exact h
theorem zc_movR {post : Int32 → St2 → Prop} {n : Nat} (p q f l v : Nat) (p0 : p + 8 < 4096) (o0 : m p = 139) (o1 : m (p + 1) = q) (z_q : q < 256) (hf : f < 8) (l8 : l < 8) (q1 : (nI q >>> ((3 : Int32) &&& 31)) &&& 7 = nI f) (q2 : nI q >>> ((6 : Int32) &&& 31) = 3) (q3 : nI q &&& 7 = nI l) (hv : a19 l = nI v)
    (h : zc_W post n (pc, ec, sc, ch, ce, tk, he, sd, ed, nI (p + 2), eq, ls, 0, nI l, 1, nI f, st, pr, a1, a2, a3, a4, a5, a6, a7, a8, a9, a10, a11, a12, a13, a14, a15, a16, a17, zc_mm m, upd a19 f (nI v), a20, a21)) :
    zc_W post (n + 1) (pc, ec, sc, ch, ce, tk, he, sd, ed, nI p, eq, ls, 0, pl, ir, fd, st, pr, a1, a2, a3, a4, a5, a6, a7, a8, a9, a10, a11, a12, a13, a14, a15, a16, a17, zc_mm m, a19, a20, a21) := by
  refine zc_go ?_
  unfold wpX_step
  refine zc_next p 139 (by omega) o0 (by decide) ?_
  refine br_f (by decide) (br_t (by decide) (br_f (by decide) (br_t (by decide) (br_t (by decide) (br_f (by decide) (br_f (by decide) (br_f (by decide) (br_f (by decide) (br_f (by decide) (br_f (by decide) (br_f (by decide) (br_f (by decide) ?_))))))))))))
  unfold wpX_stepWithPlace
  refine zc_decR (p + 1) q f l (by omega) o1 z_q q1 q2 q3 ?_
  refine br_t (by decide) ?_
  refine zc_opR l (nI v) l8 hv ?_
  refine ⟨pk_in f 8 hf, nm_r (e' := upd a19 f (nI v)) (by rw [nI_clamp (by omega)]) ?_⟩
  exact h
theorem zc_callR {post : Int32 → St2 → Prop} {n : Nat} (p v s g k : Nat) (p0 : p + 8 < 4096) (o0 : m p = 255) (o1 : m (p + 1) = 214) (hv : a19 6 = nI v) (hs : a19 4 = nI (s + 2)) (hs1 : s + 1 < 4096) (hg : (p + 2) % 256 = g) (hk : (p + 2) / 256 = k)
    (h : zc_W post n (pc, ec, sc, ch, ce, tk, he, sd, ed, nI v, eq, ls, 0, nI 6, 1, nI 2, st, pr, a1, a2, a3, a4, a5, a6, a7, a8, a9, a10, a11, a12, a13, a14, a15, a16, a17, zc_mm (zc_u (zc_u m s g) (s + 1) k), upd a19 4 (nI s), a20, a21)) :
    zc_W post (n + 1) (pc, ec, sc, ch, ce, tk, he, sd, ed, nI p, eq, ls, 0, pl, ir, fd, st, pr, a1, a2, a3, a4, a5, a6, a7, a8, a9, a10, a11, a12, a13, a14, a15, a16, a17, zc_mm m, a19, a20, a21) := by
  refine zc_go ?_
  unfold wpX_step
  refine zc_next p 255 (by omega) o0 (by decide) ?_
  refine br_f (by decide) (br_t (by decide) (br_f (by decide) (br_t (by decide) (br_f (by decide) (br_t (by decide) (br_f (by decide) (br_f (by decide) (br_f (by decide) (br_f (by decide) (br_f (by decide) (br_f (by decide) (br_f (by decide) (br_f (by decide) ?_)))))))))))))
  unfold wpX_stepWithPlace
  refine zc_decR (p + 1) 214 2 6 (by omega) o1 (by decide) (by decide) (by decide) (by decide) ?_
  refine br_f (by decide) (br_f (by decide) (br_f (by decide) (br_f (by decide) (br_f (by decide) (br_t (by decide) ?_)))))
  unfold wpX_countOrCall
  refine zc_opR 6 (nI v) (by decide) hv ?_
  refine br_t (by decide) ?_
  exact zc_push s (p + 2) g k hs hs1 (by omega) hg hk h
theorem zc_inc {post : Int32 → St2 → Prop} {n : Nat} (p b c d e v g k : Nat) (p0 : p + 8 < 4096) (o0 : m p = 255) (o1 : m (p + 1) = 6) (o2 : m (p + 2) = b) (o3 : m (p + 3) = c) (z_b : b < 256) (z_c : c < 256) (z_d : d < 256) (z_e : e < 256) (m1 : m (b + 256 * c) = d) (m2 : m (b + 256 * c + 1) = e) (ha : b + 256 * c + 1 < 4096) (hv : d + 256 * e = v) (hw : v + 1 < 65536) (hg : (v + 1) % 256 = g) (hk : (v + 1) / 256 = k)
    (h : zc_W post n (pc, ec, sc, ch, ce, tk, he, sd, ed, nI (p + 4), eq, ls, 0, nI (b + 256 * c), 0, nI 0, st, pr, a1, a2, a3, a4, a5, a6, a7, a8, a9, a10, a11, a12, a13, a14, a15, a16, a17, zc_mm (zc_u (zc_u m (b + 256 * c) g) (b + 256 * c + 1) k), a19, a20, a21)) :
    zc_W post (n + 1) (pc, ec, sc, ch, ce, tk, he, sd, ed, nI p, eq, ls, 0, pl, ir, fd, st, pr, a1, a2, a3, a4, a5, a6, a7, a8, a9, a10, a11, a12, a13, a14, a15, a16, a17, zc_mm m, a19, a20, a21) := by
  refine zc_go ?_
  unfold wpX_step
  refine zc_next p 255 (by omega) o0 (by decide) ?_
  refine br_f (by decide) (br_t (by decide) (br_f (by decide) (br_t (by decide) (br_f (by decide) (br_t (by decide) (br_f (by decide) (br_f (by decide) (br_f (by decide) (br_f (by decide) (br_f (by decide) (br_f (by decide) (br_f (by decide) (br_f (by decide) ?_)))))))))))))
  unfold wpX_stepWithPlace
  refine zc_decM (p + 1) 6 0 b c (by omega) o1 (by decide) o2 o3 z_b z_c (by decide) (by decide) (by decide) ?_
  refine br_f (by decide) (br_f (by decide) (br_f (by decide) (br_f (by decide) (br_f (by decide) (br_t (by decide) ?_)))))
  unfold wpX_countOrCall
  refine zc_opM (b + 256 * c) d e ha m1 m2 z_d z_e ?_
  refine br_f (by decide) (br_t (by decide) ?_)
  rw [hv]
  unfold wX_countOrCall_46
  rw [nI_1 v]
  exact zc_setM (b + 256 * c) (v + 1) g k ha hw hg hk h
theorem zc_dec {post : Int32 → St2 → Prop} {n : Nat} (p b c d e v g k : Nat) (p0 : p + 8 < 4096) (o0 : m p = 255) (o1 : m (p + 1) = 14) (o2 : m (p + 2) = b) (o3 : m (p + 3) = c) (z_b : b < 256) (z_c : c < 256) (z_d : d < 256) (z_e : e < 256) (m1 : m (b + 256 * c) = d) (m2 : m (b + 256 * c + 1) = e) (ha : b + 256 * c + 1 < 4096) (hv : d + 256 * e = v + 1) (hw : v < 65536) (hg : (v) % 256 = g) (hk : (v) / 256 = k)
    (h : zc_W post n (pc, ec, sc, ch, ce, tk, he, sd, ed, nI (p + 4), eq, ls, 0, nI (b + 256 * c), 0, nI 1, st, pr, a1, a2, a3, a4, a5, a6, a7, a8, a9, a10, a11, a12, a13, a14, a15, a16, a17, zc_mm (zc_u (zc_u m (b + 256 * c) g) (b + 256 * c + 1) k), a19, a20, a21)) :
    zc_W post (n + 1) (pc, ec, sc, ch, ce, tk, he, sd, ed, nI p, eq, ls, 0, pl, ir, fd, st, pr, a1, a2, a3, a4, a5, a6, a7, a8, a9, a10, a11, a12, a13, a14, a15, a16, a17, zc_mm m, a19, a20, a21) := by
  refine zc_go ?_
  unfold wpX_step
  refine zc_next p 255 (by omega) o0 (by decide) ?_
  refine br_f (by decide) (br_t (by decide) (br_f (by decide) (br_t (by decide) (br_f (by decide) (br_t (by decide) (br_f (by decide) (br_f (by decide) (br_f (by decide) (br_f (by decide) (br_f (by decide) (br_f (by decide) (br_f (by decide) (br_f (by decide) ?_)))))))))))))
  unfold wpX_stepWithPlace
  refine zc_decM (p + 1) 14 1 b c (by omega) o1 (by decide) o2 o3 z_b z_c (by decide) (by decide) (by decide) ?_
  refine br_f (by decide) (br_f (by decide) (br_f (by decide) (br_f (by decide) (br_f (by decide) (br_t (by decide) ?_)))))
  unfold wpX_countOrCall
  refine zc_opM (b + 256 * c) d e ha m1 m2 z_d z_e ?_
  refine br_f (by decide) (br_f (by decide) ?_)
  rw [hv]
  unfold wX_countOrCall_46
  rw [nI_pred v]
  exact zc_setM (b + 256 * c) (v) g k ha hw hg hk h
theorem zc_cmpB {post : Int32 → St2 → Prop} {n : Nat} (p b c d e j : Nat) (p0 : p + 8 < 4096) (o0 : m p = 131) (o1 : m (p + 1) = 62) (o2 : m (p + 2) = b) (o3 : m (p + 3) = c) (o4 : m (p + 4) = j) (z_b : b < 256) (z_c : c < 256) (z_d : d < 256) (z_e : e < 256) (z_j : j < 256) (m1 : m (b + 256 * c) = d) (m2 : m (b + 256 * c + 1) = e) (ha : b + 256 * c + 1 < 4096) (c1 : ¬ (nI (d + 256 * e) &&& 65535) = ((nI j).toInt8.toInt32 &&& 65535)) (c2 : ¬ (nI j).toInt8.toInt32.toInt16.toInt32 ≤ (nI (d + 256 * e)).toInt16.toInt32)
    (h : zc_W post n (pc, ec, sc, ch, ce, tk, he, sd, ed, nI (p + 5), 0, 1, 0, nI (b + 256 * c), 0, nI 7, st, pr, a1, a2, a3, a4, a5, a6, a7, a8, a9, a10, a11, a12, a13, a14, a15, a16, a17, zc_mm m, a19, a20, a21)) :
    zc_W post (n + 1) (pc, ec, sc, ch, ce, tk, he, sd, ed, nI p, eq, ls, 0, pl, ir, fd, st, pr, a1, a2, a3, a4, a5, a6, a7, a8, a9, a10, a11, a12, a13, a14, a15, a16, a17, zc_mm m, a19, a20, a21) := by
  refine zc_go ?_
  unfold wpX_step
  refine zc_next p 131 (by omega) o0 (by decide) ?_
  refine br_f (by decide) (br_t (by decide) (br_f (by decide) (br_t (by decide) (br_t (by decide) (br_f (by decide) (br_f (by decide) (br_f (by decide) (br_f (by decide) (br_f (by decide) (br_f (by decide) (br_f (by decide) (br_f (by decide) ?_))))))))))))
  unfold wpX_stepWithPlace
  refine zc_decM (p + 1) 62 7 b c (by omega) o1 (by decide) o2 o3 z_b z_c (by decide) (by decide) (by decide) ?_
  refine br_f (by decide) (br_f (by decide) (br_f (by decide) (br_f (by decide) (br_t (by decide) ?_))))
  unfold wpX_withByte
  refine zc_next (p + 4) j (by omega) o4 z_j ?_
  refine zc_opM (b + 256 * c) d e ha m1 m2 z_d z_e ?_
  refine br_t (by decide) ?_
  exact zc_cmpL c1 c2 h
theorem zc_cmpW {post : Int32 → St2 → Prop} {n : Nat} (p b c d e j i : Nat) (p0 : p + 8 < 4096) (o0 : m p = 129) (o1 : m (p + 1) = 62) (o2 : m (p + 2) = b) (o3 : m (p + 3) = c) (o4 : m (p + 4) = j) (o5 : m (p + 5) = i) (z_b : b < 256) (z_c : c < 256) (z_d : d < 256) (z_e : e < 256) (z_j : j < 256) (z_i : i < 256) (m1 : m (b + 256 * c) = d) (m2 : m (b + 256 * c + 1) = e) (ha : b + 256 * c + 1 < 4096) (c1 : ¬ (nI (d + 256 * e) &&& 65535) = (nI (j + 256 * i) &&& 65535)) (c2 : ¬ (nI (j + 256 * i)).toInt16.toInt32 ≤ (nI (d + 256 * e)).toInt16.toInt32)
    (h : zc_W post n (pc, ec, sc, ch, ce, tk, he, sd, ed, nI (p + 6), 0, 1, 0, nI (b + 256 * c), 0, nI 7, st, pr, a1, a2, a3, a4, a5, a6, a7, a8, a9, a10, a11, a12, a13, a14, a15, a16, a17, zc_mm m, a19, a20, a21)) :
    zc_W post (n + 1) (pc, ec, sc, ch, ce, tk, he, sd, ed, nI p, eq, ls, 0, pl, ir, fd, st, pr, a1, a2, a3, a4, a5, a6, a7, a8, a9, a10, a11, a12, a13, a14, a15, a16, a17, zc_mm m, a19, a20, a21) := by
  refine zc_go ?_
  unfold wpX_step
  refine zc_next p 129 (by omega) o0 (by decide) ?_
  refine br_f (by decide) (br_t (by decide) (br_f (by decide) (br_t (by decide) (br_t (by decide) (br_f (by decide) (br_f (by decide) (br_f (by decide) (br_f (by decide) (br_f (by decide) (br_f (by decide) (br_f (by decide) (br_f (by decide) ?_))))))))))))
  unfold wpX_stepWithPlace
  refine zc_decM (p + 1) 62 7 b c (by omega) o1 (by decide) o2 o3 z_b z_c (by decide) (by decide) (by decide) ?_
  refine br_f (by decide) (br_f (by decide) (br_f (by decide) (br_t (by decide) ?_)))
  refine zc_nextWord (p + 4) j i (by omega) o4 o5 z_j z_i ?_
  refine zc_opM (b + 256 * c) d e ha m1 m2 z_d z_e ?_
  exact zc_cmpL c1 c2 h
theorem zc_jl {post : Int32 → St2 → Prop} {n : Nat} (p j t : Nat) (p0 : p + 8 < 4096) (o0 : m p = 124) (o1 : m (p + 1) = j) (z_j : j < 256) (ht : nI (p + 2) + (nI j).toInt8.toInt32 = nI t)
    (h : zc_W post n (pc, ec, sc, ch, ce, tk, he, sd, ed, nI t, eq, 1, 0, pl, ir, fd, st, pr, a1, a2, a3, a4, a5, a6, a7, a8, a9, a10, a11, a12, a13, a14, a15, a16, a17, zc_mm m, a19, a20, a21)) :
    zc_W post (n + 1) (pc, ec, sc, ch, ce, tk, he, sd, ed, nI p, eq, 1, 0, pl, ir, fd, st, pr, a1, a2, a3, a4, a5, a6, a7, a8, a9, a10, a11, a12, a13, a14, a15, a16, a17, zc_mm m, a19, a20, a21) := by
  refine zc_go ?_
  unfold wpX_step
  refine zc_next p 124 (by omega) o0 (by decide) ?_
  refine br_f (by decide) (br_t (by decide) (br_f (by decide) (br_t (by decide) (br_t (by decide) (br_f (by decide) (br_f (by decide) (br_f (by decide) (br_f (by decide) (br_f (by decide) (br_t (by decide) ?_))))))))))
  unfold wX_step_237
  unfold wpX_branch
  refine zc_next (p + 1) j (by omega) o1 z_j ?_
  refine br_t (by decide) ?_
  unfold wX_branch_42
  exact br_f (by decide) (nm_r (e' := nI t) ht h)
theorem zc_xor {post : Int32 → St2 → Prop} {n : Nat} (p : Nat) (p0 : p + 8 < 4096) (o0 : m p = 51) (o1 : m (p + 1) = 192) (hx : a19 0 = 0)
    (h : zc_W post n (pc, ec, sc, ch, ce, tk, he, sd, ed, nI (p + 2), 1, 0, 0, nI 0, 1, nI 0, st, pr, a1, a2, a3, a4, a5, a6, a7, a8, a9, a10, a11, a12, a13, a14, a15, a16, a17, zc_mm m, upd a19 0 0, a20, a21)) :
    zc_W post (n + 1) (pc, ec, sc, ch, ce, tk, he, sd, ed, nI p, eq, ls, 0, pl, ir, fd, st, pr, a1, a2, a3, a4, a5, a6, a7, a8, a9, a10, a11, a12, a13, a14, a15, a16, a17, zc_mm m, a19, a20, a21) := by
  refine zc_go ?_
  unfold wpX_step
  refine zc_next p 51 (by omega) o0 (by decide) ?_
  refine br_t (by decide) (br_t (by decide) (br_t (by decide) (br_f (by decide) (br_f (by decide) (br_f (by decide) (br_f (by decide) (br_f (by decide) (br_f (by decide) (br_f (by decide) (br_f (by decide) ?_))))))))))
  unfold wpX_stepWithPlace
  refine zc_decR (p + 1) 192 0 0 (by omega) o1 (by decide) (by decide) (by decide) (by decide) ?_
  refine br_f (by decide) (br_f (by decide) (br_f (by decide) (br_f (by decide) (br_f (by decide) (br_f (by decide) (br_f (by decide) ?_))))))
  refine zc_opR 0 0 (by decide) hx ?_
  unfold wpX_calculate
  refine ⟨pk_in 0 8 (by decide), nm_r (e' := 0) (by rw [nI_clamp (by decide)]; exact hx) (br_f (by decide) (br_f (by decide) (br_f (by decide) (br_f (by decide) ?_))))⟩
  unfold wX_calculate_61
  refine ⟨pk_in 0 8 (by decide), nm_r (e' := upd a19 0 0) (by rw [nI_clamp (by decide)]; rfl) ?_⟩
  exact zc_cmpE (by decide) (by decide) h
theorem zc_call {post : Int32 → St2 → Prop} {n : Nat} (p b c t s g k : Nat) (p0 : p + 8 < 4096) (o0 : m p = 232) (o1 : m (p + 1) = b) (o2 : m (p + 2) = c) (z_b : b < 256) (z_c : c < 256) (hs : a19 4 = nI (s + 2)) (hs1 : s + 1 < 4096) (hg : (p + 3) % 256 = g) (hk : (p + 3) / 256 = k) (ht : nI (p + 3) + (nI (b + 256 * c)).toInt16.toInt32 = nI t)
    (h : zc_W post n (pc, ec, sc, ch, ce, tk, he, sd, ed, nI t, eq, ls, 0, pl, ir, fd, st, pr, a1, a2, a3, a4, a5, a6, a7, a8, a9, a10, a11, a12, a13, a14, a15, a16, a17, zc_mm (zc_u (zc_u m s g) (s + 1) k), upd a19 4 (nI s), a20, a21)) :
    zc_W post (n + 1) (pc, ec, sc, ch, ce, tk, he, sd, ed, nI p, eq, ls, 0, pl, ir, fd, st, pr, a1, a2, a3, a4, a5, a6, a7, a8, a9, a10, a11, a12, a13, a14, a15, a16, a17, zc_mm m, a19, a20, a21) := by
  refine zc_go ?_
  unfold wpX_step
  refine zc_next p 232 (by omega) o0 (by decide) ?_
  refine br_f (by decide) (br_t (by decide) (br_f (by decide) (br_t (by decide) (br_f (by decide) (br_t (by decide) (br_t (by decide) ?_))))))
  unfold wX_step_106
  refine zc_nextWord (p + 1) b c (by omega) o1 o2 z_b z_c ?_
  refine br_t (by decide) ?_
  refine zc_push s (p + 3) g k hs hs1 (by omega) hg hk ?_
  exact nm_r (e' := nI t) ht h
theorem zc_ret {post : Int32 → St2 → Prop} {n : Nat} (p s d e : Nat) (p0 : p + 8 < 4096) (o0 : m p = 195) (hs : a19 4 = nI s) (hs1 : s + 1 < 4096) (m1 : m s = d) (m2 : m (s + 1) = e) (z_d : d < 256) (z_e : e < 256)
    (h : zc_W post n (pc, ec, sc, ch, ce, tk, he, sd, ed, nI (d + 256 * e), eq, ls, 0, pl, ir, fd, st, pr, a1, a2, a3, a4, a5, a6, a7, a8, a9, a10, a11, a12, a13, a14, a15, a16, a17, zc_mm m, upd a19 4 (nI (s + 2)), a20, a21)) :
    zc_W post (n + 1) (pc, ec, sc, ch, ce, tk, he, sd, ed, nI p, eq, ls, 0, pl, ir, fd, st, pr, a1, a2, a3, a4, a5, a6, a7, a8, a9, a10, a11, a12, a13, a14, a15, a16, a17, zc_mm m, a19, a20, a21) := by
  refine zc_go ?_
  unfold wpX_step
  refine zc_next p 195 (by omega) o0 (by decide) ?_
  refine br_f (by decide) (br_t (by decide) (br_f (by decide) (br_t (by decide) (br_f (by decide) (br_t (by decide) (br_f (by decide) (br_f (by decide) (br_t (by decide) ?_))))))))
  exact zc_pop s d e hs hs1 m1 m2 z_d z_e h
theorem zc_retN {post : Int32 → St2 → Prop} {n : Nat} (p b c s d e t : Nat) (p0 : p + 8 < 4096) (o0 : m p = 194) (o1 : m (p + 1) = b) (o2 : m (p + 2) = c) (z_b : b < 256) (z_c : c < 256) (hs : a19 4 = nI s) (hs1 : s + 1 < 4096) (m1 : m s = d) (m2 : m (s + 1) = e) (z_d : d < 256) (z_e : e < 256) (ht : s + 2 + (b + 256 * c) = t) (ht1 : t < 65536)
    (h : zc_W post n (pc, ec, sc, ch, ce, tk, he, sd, ed, nI (d + 256 * e), eq, ls, 0, pl, ir, fd, st, pr, a1, a2, a3, a4, a5, a6, a7, a8, a9, a10, a11, a12, a13, a14, a15, a16, a17, zc_mm m, upd (upd a19 4 (nI (s + 2))) 4 (nI t), a20, a21)) :
    zc_W post (n + 1) (pc, ec, sc, ch, ce, tk, he, sd, ed, nI p, eq, ls, 0, pl, ir, fd, st, pr, a1, a2, a3, a4, a5, a6, a7, a8, a9, a10, a11, a12, a13, a14, a15, a16, a17, zc_mm m, a19, a20, a21) := by
  refine zc_go ?_
  unfold wpX_step
  refine zc_next p 194 (by omega) o0 (by decide) ?_
  refine br_f (by decide) (br_t (by decide) (br_f (by decide) (br_t (by decide) (br_f (by decide) (br_t (by decide) (br_f (by decide) (br_f (by decide) (br_f (by decide) (br_t (by decide) ?_)))))))))
  refine zc_nextWord (p + 1) b c (by omega) o1 o2 z_b z_c ?_
  refine zc_pop s d e hs hs1 m1 m2 z_d z_e ?_
  exact nm_r (e' := upd (upd a19 4 (nI (s + 2))) 4 (nI t)) (congrArg (upd (upd a19 4 (nI (s + 2))) 4) (by rw [pk_us]; exact zc_sq rfl ht ht1)) h
theorem zc_load {post : Int32 → St2 → Prop} {n : Nat} (p b c : Nat) (p0 : p + 8 < 4096) (o0 : m p = 184) (o1 : m (p + 1) = b) (o2 : m (p + 2) = c) (z_b : b < 256) (z_c : c < 256)
    (h : zc_W post n (pc, ec, sc, ch, ce, tk, he, sd, ed, nI (p + 3), eq, ls, 0, pl, ir, fd, st, pr, a1, a2, a3, a4, a5, a6, a7, a8, a9, a10, a11, a12, a13, a14, a15, a16, a17, zc_mm m, upd a19 0 (nI (b + 256 * c)), a20, a21)) :
    zc_W post (n + 1) (pc, ec, sc, ch, ce, tk, he, sd, ed, nI p, eq, ls, 0, pl, ir, fd, st, pr, a1, a2, a3, a4, a5, a6, a7, a8, a9, a10, a11, a12, a13, a14, a15, a16, a17, zc_mm m, a19, a20, a21) := by
  refine zc_go ?_
  unfold wpX_step
  refine zc_next p 184 (by omega) o0 (by decide) ?_
  refine br_f (by decide) (br_t (by decide) (br_f (by decide) (br_t (by decide) (br_f (by decide) (br_f (by decide) ?_)))))
  refine zc_nextWord_2 (p + 1) b c (by omega) o1 o2 z_b z_c ?_
  exact ⟨vp_in_iff.mpr (by decide), nm_r (e' := upd a19 0 (nI (b + 256 * c))) (by rw [show (nI 184 - 184).toNatClampNeg = 0 by decide]) h⟩
theorem zc_popBp {post : Int32 → St2 → Prop} {n : Nat} (p s d e : Nat) (p0 : p + 8 < 4096) (o0 : m p = 93) (hs : a19 4 = nI s) (hs1 : s + 1 < 4096) (m1 : m s = d) (m2 : m (s + 1) = e) (z_d : d < 256) (z_e : e < 256)
    (h : zc_W post n (pc, ec, sc, ch, ce, tk, he, sd, ed, nI (p + 1), eq, ls, 0, pl, ir, fd, st, pr, a1, a2, a3, a4, a5, a6, a7, a8, a9, a10, a11, a12, a13, a14, a15, a16, a17, zc_mm m, upd (upd a19 4 (nI (s + 2))) 5 (nI (d + 256 * e)), a20, a21)) :
    zc_W post (n + 1) (pc, ec, sc, ch, ce, tk, he, sd, ed, nI p, eq, ls, 0, pl, ir, fd, st, pr, a1, a2, a3, a4, a5, a6, a7, a8, a9, a10, a11, a12, a13, a14, a15, a16, a17, zc_mm m, a19, a20, a21) := by
  refine zc_go ?_
  unfold wpX_step
  refine zc_next p 93 (by omega) o0 (by decide) ?_
  refine br_f (by decide) (br_t (by decide) (br_f (by decide) (br_f (by decide) ?_)))
  refine zc_pop_2 s d e hs hs1 m1 m2 z_d z_e ?_
  exact ⟨vp_in_iff.mpr (by decide), nm_r (e' := upd (upd a19 4 (nI (s + 2))) 5 (nI (d + 256 * e))) (by rw [show (nI 93 - 88).toNatClampNeg = 5 by decide]) h⟩
theorem zc_print {post : Int32 → St2 → Prop} {n : Nat} {x : Int32} (p : Nat) (p0 : p + 8 < 4096) (o0 : m p = 205) (o1 : m (p + 1) = 1) (hx : (a19 0).toInt16.toInt32 = x)
    (h : zc_W post n (pc, ec, sc, ch, ce, tk, he, sd, ed, nI (p + 2), eq, ls, 0, pl, ir, fd, st, 1, a1, a2, a3, a4, a5, a6, a7, a8, a9, a10, a11, a12, a13, a14, a15, a16, a17, zc_mm m, a19, a20, upd a21 0 x)) :
    zc_W post (n + 1) (pc, ec, sc, ch, ce, tk, he, sd, ed, nI p, eq, ls, 0, pl, ir, fd, st, 0, a1, a2, a3, a4, a5, a6, a7, a8, a9, a10, a11, a12, a13, a14, a15, a16, a17, zc_mm m, a19, a20, a21) := by
  refine zc_go ?_
  unfold wpX_step
  refine zc_next p 205 (by omega) o0 (by decide) ?_
  refine br_f (by decide) (br_t (by decide) (br_f (by decide) (br_t (by decide) (br_f (by decide) (br_t (by decide) (br_f (by decide) (br_f (by decide) (br_f (by decide) (br_f (by decide) (br_t (by decide) ?_))))))))))
  refine zc_next (p + 1) 1 (by omega) o1 (by decide) ?_
  unfold wpX_interrupt
  exact br_f (by decide) (br_f (by decide) ⟨pk_in 0 30 (by decide), nm_r (e' := upd a21 0 x) (by rw [sb_cl0, hx]) (nm_r (e' := 1) (by decide) h)⟩)
theorem zc_halt {post : Int32 → St2 → Prop} {n : Nat} (p : Nat) (p0 : p + 8 < 4096) (o0 : m p = 205) (o1 : m (p + 1) = 0)
    (h : zc_W post n (pc, ec, sc, ch, ce, tk, he, sd, ed, nI (p + 2), eq, ls, 1, pl, ir, fd, st, pr, a1, a2, a3, a4, a5, a6, a7, a8, a9, a10, a11, a12, a13, a14, a15, a16, a17, zc_mm m, a19, a20, a21)) :
    zc_W post (n + 1) (pc, ec, sc, ch, ce, tk, he, sd, ed, nI p, eq, ls, 0, pl, ir, fd, st, pr, a1, a2, a3, a4, a5, a6, a7, a8, a9, a10, a11, a12, a13, a14, a15, a16, a17, zc_mm m, a19, a20, a21) := by
  refine zc_go ?_
  unfold wpX_step
  refine zc_next p 205 (by omega) o0 (by decide) ?_
  refine br_f (by decide) (br_t (by decide) (br_f (by decide) (br_t (by decide) (br_f (by decide) (br_t (by decide) (br_f (by decide) (br_f (by decide) (br_f (by decide) (br_f (by decide) (br_t (by decide) ?_))))))))))
  refine zc_next (p + 1) 0 (by omega) o1 (by decide) ?_
  unfold wpX_interrupt
  exact br_t (by decide) h
theorem zc_end {post : Int32 → St2 → Prop} {n : Nat} (b2 c2 b4086 c4086 b4084 c4084 b4082 c4082 : Nat) (i2 : m 2 = b2) (j2 : m 3 = c2) (s2 : b2 < 256) (t2 : c2 < 256) (i4086 : m 4086 = b4086) (j4086 : m 4087 = c4086) (s4086 : b4086 < 256) (t4086 : c4086 < 256) (i4084 : m 4084 = b4084) (j4084 : m 4085 = c4084) (s4084 : b4084 < 256) (t4084 : c4084 < 256) (i4082 : m 4082 = b4082) (j4082 : m 4083 = c4082) (s4082 : b4082 < 256) (t4082 : c4082 < 256) (hx : a19 0 = 0)
    (hp : ∀ (st : Int32) (a20 : Nat → Int32), post 0 (pc, ec, sc, ch, ce, tk, he, sd, ed, ip, eq, ls, 1, pl, ir, fd, st, pr, a1, a2, a3, a4, a5, a6, a7, a8, a9, a10, a11, a12, a13, a14, a15, a16, a17, zc_mm m, a19, a20, a21)) :
    zc_W post (n + 1) (pc, ec, sc, ch, ce, tk, he, sd, ed, ip, eq, ls, 1, pl, ir, fd, st, pr, a1, a2, a3, a4, a5, a6, a7, a8, a9, a10, a11, a12, a13, a14, a15, a16, a17, zc_mm m, a19, a20, a21) := by
  show wX_run_90 post (n + 1) pc ec sc ch ce tk he sd ed ip eq ls 1 pl ir fd st pr a1 a2 a3 a4 a5 a6 a7 a8 a9 a10 a11 a12 a13 a14 a15 a16 a17 (zc_mm m) a19 a20 a21
  refine br_f (by decide) ?_
  refine zc_wordAt 2 b2 c2 (by decide) i2 j2 s2 t2 ?_
  refine ⟨4, br_f (by decide) ?_⟩
  rw [show (4086 - (2 * 0) : Int32) = nI 4086 by decide]
  refine zc_wordAt 4086 b4086 c4086 (by decide) i4086 j4086 s4086 t4086 ?_
  refine ⟨pk_in 0 3 (by decide), nm_e (nm_r (e' := 1) (by decide) ?_)⟩
  refine br_f (by decide) ?_
  rw [show (4086 - (2 * 1) : Int32) = nI 4084 by decide]
  refine zc_wordAt 4084 b4084 c4084 (by decide) i4084 j4084 s4084 t4084 ?_
  refine ⟨pk_in 1 3 (by decide), nm_e (nm_r (e' := 2) (by decide) ?_)⟩
  refine br_f (by decide) ?_
  rw [show (4086 - (2 * 2) : Int32) = nI 4082 by decide]
  refine zc_wordAt 4082 b4082 c4082 (by decide) i4082 j4082 s4082 t4082 ?_
  refine ⟨pk_in 2 3 (by decide), nm_e (nm_r (e' := 3) (by decide) ?_)⟩
  refine br_t (by decide) ?_
  rw [hx]
  exact hp _ _
end
end
section
section
variable {pc ec sc ch ce tk he sd ed ip eq ls hl pl ir fd st pr : Int32} {a1 a2 a3 a4 a5 a6 a7 a8 a9 a10 a11 a12 a13 a14 a15 a16 a17 a18 a19 a20 a21 : Nat → Int32} {m : Nat → Nat}
theorem zc_run90 {post : Int32 → St2 → Prop} {x : Int32} (lo hi : Nat) (hlo : lo < 256) (hhi : hi < 256) (hx : (nI (lo + 256 * hi)).toInt16.toInt32 = x)
    (hp : ∀ (pc ec sc ch ce tk he sd ed ip eq ls hl pl ir fd st : Int32) (a1 a2 a3 a4 a5 a6 a7 a8 a9 a10 a11 a12 a13 a14 a15 a16 a17 a18 a19 a20 : Nat → Int32), post 0 (pc, ec, sc, ch, ce, tk, he, sd, ed, ip, eq, ls, hl, pl, ir, fd, st, 1, a1, a2, a3, a4, a5, a6, a7, a8, a9, a10, a11, a12, a13, a14, a15, a16, a17, a18, a19, a20, upd a21 0 x)) :
    zc_W post 40 (pc, ec, sc, ch, ce, tk, he, sd, ed, 64, eq, ls, 0, pl, ir, fd, st, 0, a1, a2, a3, a4, a5, a6, a7, a8, a9, a10, a11, a12, a13, a14, a15, a16, a17, zc_mm (zc_u (zc_u (zc_u (zc_u (zc_u (zc_u (zc_u (zc_u (zc_u (zc_u (zc_code lo hi) 2 0) 3 0) 4 0) 5 0) 4086 0) 4087 0) 4084 0) 4085 0) 4082 0) 4083 0), upd (upd (fun _ => 0) 4 4094) 5 0, a20, a21) := by
  refine zc_push80 64 0 4092 0 0 (by decide) (by rfl) (by rfl) (by rfl) (by decide) (by decide) (by decide) (by decide) ?_
  refine zc_movM 65 54 6 32 0 94 0 (by decide) (by rfl) (by rfl) (by rfl) (by rfl) (by decide) (by decide) (by decide) (by decide) (by decide) (by decide) (by decide) (by decide) (by decide) (by rfl) (by rfl) (by decide) ?_
  refine zc_callR 69 94 4090 71 0 (by decide) (by rfl) (by rfl) (by rfl) (by rfl) (by decide) (by decide) (by decide) ?_
  refine zc_push85 94 0 4088 0 0 (by decide) (by rfl) (by rfl) (by rfl) (by decide) (by decide) (by decide) (by decide) ?_
  refine zc_movR 95 236 5 4 4088 (by decide) (by rfl) (by rfl) (by decide) (by decide) (by decide) (by decide) (by decide) (by decide) (by rfl) ?_
  refine zc_cmpB 97 4 0 0 0 12 (by decide) (by rfl) (by rfl) (by rfl) (by rfl) (by rfl) (by decide) (by decide) (by decide) (by decide) (by decide) (by rfl) (by rfl) (by decide) (by decide) (by decide) ?_
  refine zc_jl 102 5 109 (by decide) (by rfl) (by rfl) (by decide) (by decide) ?_
  refine zc_inc 109 4 0 0 0 0 1 0 (by decide) (by rfl) (by rfl) (by rfl) (by rfl) (by decide) (by decide) (by decide) (by decide) (by rfl) (by rfl) (by decide) (by decide) (by decide) (by decide) (by decide) ?_
  refine zc_xor 113 (by decide) (by rfl) (by rfl) (by rfl) ?_
  refine zc_push80 115 0 4086 0 0 (by decide) (by rfl) (by rfl) (by rfl) (by decide) (by decide) (by decide) (by decide) ?_
  refine zc_push80 116 0 4084 0 0 (by decide) (by rfl) (by rfl) (by rfl) (by decide) (by decide) (by decide) (by decide) ?_
  refine zc_push80 117 0 4082 0 0 (by decide) (by rfl) (by rfl) (by rfl) (by decide) (by decide) (by decide) (by decide) ?_
  refine zc_call 118 211 255 76 4080 121 0 (by decide) (by rfl) (by rfl) (by rfl) (by decide) (by decide) (by rfl) (by decide) (by decide) (by decide) (by decide) ?_
  refine zc_cmpW 76 2 0 0 0 244 1 (by decide) (by rfl) (by rfl) (by rfl) (by rfl) (by rfl) (by rfl) (by decide) (by decide) (by decide) (by decide) (by decide) (by decide) (by rfl) (by rfl) (by decide) (by decide) (by decide) ?_
  refine zc_jl 82 5 89 (by decide) (by rfl) (by rfl) (by decide) (by decide) ?_
  refine zc_inc 89 2 0 0 0 0 1 0 (by decide) (by rfl) (by rfl) (by rfl) (by rfl) (by decide) (by decide) (by decide) (by decide) (by rfl) (by rfl) (by decide) (by decide) (by decide) (by decide) (by decide) ?_
  refine zc_ret 93 4080 121 0 (by decide) (by rfl) (by rfl) (by decide) (by rfl) (by rfl) (by decide) (by decide) ?_
  refine zc_load 121 lo hi (by decide) (by rfl) (by rfl) (by rfl) hlo hhi ?_
  refine zc_print 124 (by decide) (by rfl) (by rfl) (by exact hx) ?_
  refine zc_movR 126 229 4 5 4088 (by decide) (by rfl) (by rfl) (by decide) (by decide) (by decide) (by decide) (by decide) (by decide) (by rfl) ?_
  refine zc_dec 128 4 0 1 0 0 0 0 (by decide) (by rfl) (by rfl) (by rfl) (by rfl) (by decide) (by decide) (by decide) (by decide) (by rfl) (by rfl) (by decide) (by decide) (by decide) (by decide) (by decide) ?_
  refine zc_popBp 132 4088 0 0 (by decide) (by rfl) (by rfl) (by decide) (by rfl) (by rfl) (by decide) (by decide) ?_
  refine zc_retN 133 2 0 4090 71 0 4094 (by decide) (by rfl) (by rfl) (by rfl) (by decide) (by decide) (by rfl) (by decide) (by rfl) (by rfl) (by decide) (by decide) (by decide) (by decide) ?_
  refine zc_load 71 0 0 (by decide) (by rfl) (by rfl) (by rfl) (by decide) (by decide) ?_
  refine zc_halt 74 (by decide) (by rfl) (by rfl) ?_
  refine zc_end 1 0 0 0 0 0 0 0 (by rfl) (by rfl) (by decide) (by decide) (by rfl) (by rfl) (by decide) (by decide) (by rfl) (by rfl) (by decide) (by decide) (by rfl) (by rfl) (by decide) (by decide) (by rfl) (fun st a20 => ?_)
  exact hp _ _ _ _ _ _ _ _ _ _ _ _ _ _ _ _ _ _ _ _ _ _ _ _ _ _ _ _ _ _ _ _ _ _ _ _ _
theorem zc_run21 {post : Int32 → St2 → Prop} {x : Int32} (lo hi : Nat) (hlo : lo < 256) (hhi : hi < 256) (hx : (nI (lo + 256 * hi)).toInt16.toInt32 = x)
    (hp : ∀ (pc ec sc ch ce tk he sd ed ip eq ls hl pl ir fd st : Int32) (a1 a2 a3 a4 a5 a6 a7 a8 a9 a10 a11 a12 a13 a14 a15 a16 a17 a18 a19 a20 : Nat → Int32), post 0 (pc, ec, sc, ch, ce, tk, he, sd, ed, ip, eq, ls, hl, pl, ir, fd, st, 1, a1, a2, a3, a4, a5, a6, a7, a8, a9, a10, a11, a12, a13, a14, a15, a16, a17, a18, a19, a20, upd a21 0 x)) :
    wX_run_21 post pc ec sc ch ce tk he sd ed ip eq ls hl pl ir fd st pr a1 a2 a3 a4 a5 a6 a7 a8 a9 a10 a11 a12 a13 a14 a15 a16 a17 (zc_mm (zc_code lo hi)) ((fun _ => 0)) a20 a21 := by
  unfold wX_run_21
  refine zc_setWord 2 0 0 0 (by decide) (by decide) (by decide) (by decide) ?_
  refine zc_setWord 4 0 0 0 (by decide) (by decide) (by decide) (by decide) ?_
  refine ⟨4, br_f (by decide) ?_⟩
  rw [show (4086 - (2 * 0) : Int32) = nI 4086 by decide]
  refine zc_setWord 4086 0 0 0 (by decide) (by decide) (by decide) (by decide) ?_
  refine nm_r (e' := 1) (by decide) ?_
  refine br_f (by decide) ?_
  rw [show (4086 - (2 * 1) : Int32) = nI 4084 by decide]
  refine zc_setWord 4084 0 0 0 (by decide) (by decide) (by decide) (by decide) ?_
  refine nm_r (e' := 2) (by decide) ?_
  refine br_f (by decide) ?_
  rw [show (4086 - (2 * 2) : Int32) = nI 4082 by decide]
  refine zc_setWord 4082 0 0 0 (by decide) (by decide) (by decide) (by decide) ?_
  refine nm_r (e' := 3) (by decide) ?_
  refine br_t (by decide) (nm_e (nm_e ⟨40, zc_Wi ?_⟩))
  exact zc_run90 lo hi hlo hhi hx hp
end
end
section
section
variable {pc ec sc ch ce tk he sd ed ip eq ls hl pl ir fd st pr : Int32} {a1 a2 a3 a4 a5 a6 a7 a8 a9 a10 a11 a12 a13 a14 a15 a16 a17 a18 a19 a20 a21 : Nat → Int32} {m : Nat → Nat}
theorem zc_bodyFits {post : Int32 → Prop} (h3 : a3 0 = 0) (h8 : a8 0 = 4) (h9 : a9 0 = 0) (h4 : a4 0 = 0) (hp : post 1) :
    wpX_bodyFits post (pc, 1, sc, ch, ce, tk, he, sd, ed, ip, eq, ls, hl, pl, ir, fd, st, pr, a1, a2, a3, a4, a5, a6, a7, a8, a9, a10, a11, a12, a13, a14, a15, a16, a17, a18, a19, a20, a21) 0 := by
  have k3 : a3 (0 : Int32).toNatClampNeg = 0 := by rw [sb_cl0]; exact h3
  have k8 : a8 (0 : Int32).toNatClampNeg = 4 := by rw [sb_cl0]; exact h8
  have k9 : a9 (0 : Int32).toNatClampNeg = 0 := by rw [sb_cl0]; exact h9
  have k4 : a4 (0 : Int32).toNatClampNeg = 0 := by rw [sb_cl0]; exact h4
  unfold wpX_bodyFits
  refine ⟨pk_in 0 5 (by decide), nm_r (e' := 1) (by rw [k3]; decide) ⟨pk_in 0 5 (by decide), nm_r (e' := 0) k3 ⟨2, br_f (by decide) (br_f (by decide) ?_)⟩⟩⟩
  unfold wpX_statesIn
  refine ⟨pk_in 0 40 (by decide), nm_r (e' := 4) k8 (br_f (by decide) (br_f (by decide) (br_f (by decide) ?_)))⟩
  refine nm_r (e' := 1) (by decide) ?_
  unfold wpX_expressionsIn
  refine ⟨pk_in 0 40 (by decide), nm_r (e' := 4) k8 (br_f (by decide) (br_f (by decide) (br_f (by decide) (br_t (by decide) ⟨pk_in 0 40 (by decide), ?_⟩))))⟩
  refine nm_r (e' := 1) (by rw [k9]; decide) ⟨pk_in 0 40 (by decide), br_f (by rw [k8]; decide) ?_⟩
  unfold wX_bodyFits_86
  refine ⟨pk_in 0 40 (by decide), br_f (by rw [k8]; decide) (nm_r (e' := -1) (by decide) ?_)⟩
  refine br_t (by decide) (nm_r (e' := 0) (by decide) ⟨2, br_f (by decide) (br_f (by decide) ⟨pk_in 0 50 (by decide), nm_r (e' := 0) k4 (br_f (by decide) ?_)⟩)⟩)
  unfold wX_bodyFits_195
  refine br_t (by decide) ?_
  unfold wX_bodyFits_215
  refine br_t (by decide) (nm_r (e' := -1) (by decide) ?_)
  exact br_t (by decide) hp
theorem zc_valid {post : Int32 → Prop} (h3 : a3 0 = 0) (h8 : a8 0 = 4) (h9 : a9 0 = 0) (h4 : a4 0 = 0) (hp : post 1) :
    wpX_valid post (1, 1, sc, ch, ce, tk, he, sd, ed, ip, eq, ls, hl, pl, ir, fd, st, pr, a1, a2, a3, a4, a5, a6, a7, a8, a9, a10, a11, a12, a13, a14, a15, a16, a17, a18, a19, a20, a21) := by
  have k3 : a3 (0 : Int32).toNatClampNeg = 0 := by rw [sb_cl0]; exact h3
  unfold wpX_valid
  refine br_f (by decide) ⟨2, br_f (by decide) ⟨pk_in 0 5 (by decide), br_f (by rw [k3]; decide) ?_⟩⟩
  refine zc_bodyFits h3 h8 h9 h4 ?_
  refine br_f (by decide) (nm_r (e' := 1) (by decide) ?_)
  exact br_t (by decide) hp
theorem zc_runOk {post : Int32 → St2 → Prop} {x : Int32} (h1 : ¬ x < (-32768)) (h2 : ¬ 32767 < x) (e18 : a18 = zc_mm (fun _ => 0)) (g2 : a2 0 = 0) (h3 : a3 0 = 0) (h8 : a8 0 = 4) (h9 : a9 0 = 0) (h4 : a4 0 = 0) (h5 : a5 0 = x.toInt16.toInt32)
    (hp : ∀ (pc ec sc ch ce tk he sd ed ip eq ls hl pl ir fd st : Int32) (a1 a2 a3 a4 a5 a6 a7 a8 a9 a10 a11 a12 a13 a14 a15 a16 a17 a18 a19 a20 : Nat → Int32), post 0 (pc, ec, sc, ch, ce, tk, he, sd, ed, ip, eq, ls, hl, pl, ir, fd, st, 1, a1, a2, a3, a4, a5, a6, a7, a8, a9, a10, a11, a12, a13, a14, a15, a16, a17, a18, a19, a20, upd a21 0 x)) :
    wpX_run post (1, 1, sc, 1, ce, tk, he, sd, ed, ip, eq, ls, hl, pl, ir, fd, st, pr, a1, a2, a3, a4, a5, a6, a7, a8, a9, a10, a11, a12, a13, a14, a15, a16, a17, a18, (fun _ => 0), a20, a21) := by
  obtain ⟨ex, w, hw, xl, xh, hx⟩ := zc_x h1 h2
  rw [ex] at h5
  rw [← h5] at xl xh
  subst e18
  unfold wpX_run
  refine zc_valid h3 h8 h9 h4 ?_
  refine br_f (by decide) (br_f (by decide) ?_)
  refine zc_compile (w % 256) (w / 256) g2 h3 h8 h9 h4 xl xh (fun he sd ed a13 a14 a16 a17 => ?_)
  refine zc_run21 (w % 256) (w / 256) (by omega) (by omega) ?_ hp
  rw [show w % 256 + 256 * (w / 256) = w by omega]
  exact hx
theorem zc_runNo {post : Int32 → St2 → Prop} (hp : post (-100002) (0, ec, sc, ch, ce, tk, he, sd, ed, ip, eq, ls, hl, pl, ir, fd, st, pr, a1, a2, a3, a4, a5, a6, a7, a8, a9, a10, a11, a12, a13, a14, a15, a16, a17, a18, a19, a20, a21)) : wpX_run post (0, ec, sc, ch, ce, tk, he, sd, ed, ip, eq, ls, hl, pl, ir, fd, st, pr, a1, a2, a3, a4, a5, a6, a7, a8, a9, a10, a11, a12, a13, a14, a15, a16, a17, a18, a19, a20, a21) := by
  unfold wpX_run
  unfold wpX_valid
  exact br_t rfl (br_t rfl hp)
theorem zc_runNb {post : Int32 → St2 → Prop} (h3 : a3 0 = -1) (hp : post (-100002) (1, ec, sc, ch, ce, tk, he, sd, ed, ip, eq, ls, hl, pl, ir, fd, st, pr, a1, a2, a3, a4, a5, a6, a7, a8, a9, a10, a11, a12, a13, a14, a15, a16, a17, a18, a19, a20, a21)) : wpX_run post (1, ec, sc, ch, ce, tk, he, sd, ed, ip, eq, ls, hl, pl, ir, fd, st, pr, a1, a2, a3, a4, a5, a6, a7, a8, a9, a10, a11, a12, a13, a14, a15, a16, a17, a18, a19, a20, a21) := by
  have k3 : a3 (0 : Int32).toNatClampNeg = -1 := by rw [sb_cl0]; exact h3
  unfold wpX_run
  unfold wpX_valid
  exact br_f (by decide) ⟨1, br_f (by decide) ⟨pk_in 0 5 (by decide), br_t (by rw [k3]; decide) (br_t rfl hp)⟩⟩
end
end
section
section
variable {pc ec sc ch ce tk he sd ed ip eq ls hl pl ir fd st pr : Int32} {a1 a2 a3 a4 a5 a6 a7 a8 a9 a10 a11 a12 a13 a14 a15 a16 a17 a18 a19 a20 a21 : Nat → Int32} {m : Nat → Nat}
theorem zc_init {post : St2 → Prop} (hp : post (0, 0, 0, 0, 0, 0, 0, 0, 0, 0, 0, 0, 0, 0, 0, 0, 0, 0, (fun _ => 0), (fun _ => 0), (fun _ => 0), (fun _ => 0), (fun _ => 0), (fun _ => 0), (fun _ => 0), (fun _ => 0), (fun _ => 0), (fun _ => 0), (fun _ => 0), (fun _ => 0), (fun _ => 0), (fun _ => 0), (fun _ => 0), (fun _ => 0), (fun _ => 0), (fun _ => 0), (fun _ => 0), (fun _ => 0), (fun _ => 0))) : wpX_init post 21 4652 (0, 0, 0, 0, 0, 0, 0, 0, 0, 0, 0, 0, 0, 0, 0, 0, 0, 0) := by
  unfold wpX_init
  exact ⟨by decide, by decide, by decide, by decide, by decide, by decide, by decide, by decide, by decide, by decide, by decide, by decide, by decide, by decide, by decide, by decide, by decide, by decide, by decide, by decide, by decide, by decide, by decide, by decide, by decide, by decide, by decide, by decide, by decide, by decide, by decide, by decide, by decide, by decide, by decide, by decide, by decide, by decide, by decide, by decide, by decide, by decide, hp⟩
theorem zc_expressOk {post : Int32 → St2 → Prop} {x k : Int32} (h1 : ¬ x < (-32768)) (h2 : ¬ 32767 < x) (hp : post 0 (pc, 1, sc, ch, ce, tk, he, sd, ed, ip, eq, ls, hl, pl, ir, fd, st, pr, a1, a2, a3, upd a4 0 0, upd a5 0 x.toInt16.toInt32, upd a6 0 k.toInt8.toInt32, upd a7 0 1, a8, a9, a10, a11, a12, a13, a14, a15, a16, a17, a18, a19, a20, a21)) :
    wpX_express post (pc, 0, sc, ch, ce, tk, he, sd, ed, ip, eq, ls, hl, pl, ir, fd, st, pr, a1, a2, a3, a4, a5, a6, a7, a8, a9, a10, a11, a12, a13, a14, a15, a16, a17, a18, a19, a20, a21) 0 x k := by
  have h2' : x ≤ 32767 := Int32.not_lt.mp h2
  unfold wpX_express
  refine br_t (by decide) (br_f (by decide) (br_t (by decide) (br_t rfl (br_f h1 (br_t h2' ?_)))))
  unfold wX_express_46
  refine br_f (by decide) ?_
  unfold wX_express_62
  refine br_t (by decide) ?_
  unfold wX_express_92
  refine br_t (by decide) ?_
  unfold wX_express_111
  refine br_t (by decide) ?_
  unfold wX_express_133
  refine br_t (by decide) (nm_r (e' := 1) (by decide) ?_)
  exact ⟨pk_in 0 50 (by decide), nm_r (e' := upd a4 0 0) (by rw [sb_cl0]; rfl) ⟨pk_in 0 50 (by decide), nm_r (e' := upd a5 0 x.toInt16.toInt32) (by rw [sb_cl0]) ⟨pk_in 0 50 (by decide), nm_r (e' := upd a6 0 k.toInt8.toInt32) (by rw [sb_cl0]) ⟨pk_in 0 50 (by decide), nm_r (e' := upd a7 0 1) (by rw [sb_cl0]; rfl) hp⟩⟩⟩⟩
theorem zc_expressNo {post : Int32 → St2 → Prop} {x k : Int32} (h : x < (-32768) ∨ 32767 < x) (hp : post (-100000) (pc, 0, sc, ch, ce, tk, he, sd, ed, ip, eq, ls, hl, pl, ir, fd, st, pr, a1, a2, a3, a4, a5, a6, a7, a8, a9, a10, a11, a12, a13, a14, a15, a16, a17, a18, a19, a20, a21)) :
    wpX_express post (pc, 0, sc, ch, ce, tk, he, sd, ed, ip, eq, ls, hl, pl, ir, fd, st, pr, a1, a2, a3, a4, a5, a6, a7, a8, a9, a10, a11, a12, a13, a14, a15, a16, a17, a18, a19, a20, a21) 0 x k := by
  unfold wpX_express
  refine br_t (by decide) (br_f (by decide) (br_t (by decide) (br_t rfl (br_c (fun _ => hp) (fun h1 => br_f ?_ hp)))))
  rcases h with z | z
  · exact absurd z h1
  · exact fun y => absurd z (Int32.not_lt.mpr y)
theorem zc_stateOk {post : Int32 → St2 → Prop} {k : Int32} (h7 : a7 0 = 1) (hp : post 0 (pc, 1, 1, ch, ce, tk, he, sd, ed, ip, eq, ls, hl, pl, ir, fd, st, pr, a1, a2, a3, a4, a5, a6, a7, upd a8 0 4, upd a9 0 0, upd a10 0 k.toInt8.toInt32, upd a11 0 k.toInt8.toInt32, upd a12 0 2, a13, a14, a15, a16, a17, a18, a19, a20, a21)) :
    wpX_state post (pc, 1, 0, ch, ce, tk, he, sd, ed, ip, eq, ls, hl, pl, ir, fd, st, pr, a1, a2, a3, a4, a5, a6, a7, a8, a9, a10, a11, a12, a13, a14, a15, a16, a17, a18, a19, a20, a21) 4 0 k k := by
  have k7 : a7 (0 : Int32).toNatClampNeg = 1 := by rw [sb_cl0]; exact h7
  unfold wpX_state
  refine br_t (by decide) (br_f (by decide) (br_f (by decide) ?_))
  unfold wpX_operandsFit
  refine br_f (by decide) (br_f (by decide) (br_f (by decide) (br_f (by decide) ?_)))
  unfold wpX_isExpression
  refine br_f (by decide) (br_f (by decide) (br_f (by decide) (br_t rfl (br_f (by decide) ?_))))
  unfold wpX_weightOf
  refine br_f (by decide) (br_f (by decide) (br_f (by decide) (br_f (by decide) ⟨pk_in 0 50 (by decide), nm_r (e' := 2) (by rw [k7]; decide) (br_t rfl (br_t (by decide) ?_))⟩)))
  refine nm_r (e' := 1) (by decide) ?_
  exact ⟨pk_in 0 40 (by decide), nm_r (e' := upd a8 0 4) (by rw [sb_cl0]; rfl) ⟨pk_in 0 40 (by decide), nm_r (e' := upd a9 0 0) (by rw [sb_cl0]; rfl) ⟨pk_in 0 40 (by decide), nm_r (e' := upd a10 0 k.toInt8.toInt32) (by rw [sb_cl0]) ⟨pk_in 0 40 (by decide), nm_r (e' := upd a11 0 k.toInt8.toInt32) (by rw [sb_cl0]) ⟨pk_in 0 40 (by decide), nm_r (e' := upd a12 0 2) (by rw [sb_cl0]; rfl) hp⟩⟩⟩⟩⟩
theorem zc_stateNo {post : Int32 → St2 → Prop} {k : Int32} (hp : post (-100000) (pc, 0, 0, ch, ce, tk, he, sd, ed, ip, eq, ls, hl, pl, ir, fd, st, pr, a1, a2, a3, a4, a5, a6, a7, a8, a9, a10, a11, a12, a13, a14, a15, a16, a17, a18, a19, a20, a21)) :
    wpX_state post (pc, 0, 0, ch, ce, tk, he, sd, ed, ip, eq, ls, hl, pl, ir, fd, st, pr, a1, a2, a3, a4, a5, a6, a7, a8, a9, a10, a11, a12, a13, a14, a15, a16, a17, a18, a19, a20, a21) 4 0 k k := by
  unfold wpX_state
  refine br_t (by decide) (br_f (by decide) (br_f (by decide) ?_))
  unfold wpX_operandsFit
  refine br_f (by decide) (br_f (by decide) (br_f (by decide) (br_f (by decide) ?_)))
  unfold wpX_isExpression
  exact br_f (by decide) (br_t (by decide) (br_t rfl (br_t rfl hp)))
theorem zc_procOk {post : Int32 → St2 → Prop} {q : Int32} (hp : post 0 (1, ec, sc, 1, ce, tk, he, sd, ed, ip, eq, ls, hl, pl, ir, fd, st, pr, upd a1 0 (-1), upd a2 0 0, upd a3 0 (-1), a4, a5, a6, a7, a8, a9, a10, a11, a12, a13, a14, a15, a16, a17, a18, a19, a20, a21)) :
    wpX_procedure post (0, ec, sc, ch, ce, tk, he, sd, ed, ip, eq, ls, hl, pl, ir, fd, st, pr, a1, a2, a3, a4, a5, a6, a7, a8, a9, a10, a11, a12, a13, a14, a15, a16, a17, a18, a19, a20, a21) q 0 := by
  unfold wpX_procedure
  refine br_t (by decide) (br_f (by decide) (br_f (by decide) (br_t (by decide) ?_)))
  unfold wX_procedure_35
  refine br_t rfl (br_t rfl ?_)
  unfold wX_procedure_64
  refine nm_r (e' := 1) (by decide) (br_t rfl ?_)
  unfold wX_procedure_93
  exact ⟨pk_in 0 5 (by decide), nm_r (e' := upd a1 0 (-1)) (by rw [sb_cl0]; rfl) ⟨pk_in 0 5 (by decide), nm_r (e' := upd a2 0 0) (by rw [sb_cl0]; rfl) ⟨pk_in 0 5 (by decide), nm_r (e' := upd a3 0 (-1)) (by rw [sb_cl0]) hp⟩⟩⟩
theorem zc_procNo {post : Int32 → St2 → Prop} {q d : Int32} (hd : ¬ d = 0) (hp : post (-100000) (0, ec, sc, ch, ce, tk, he, sd, ed, ip, eq, ls, hl, pl, ir, fd, st, pr, a1, a2, a3, a4, a5, a6, a7, a8, a9, a10, a11, a12, a13, a14, a15, a16, a17, a18, a19, a20, a21)) :
    wpX_procedure post (0, ec, sc, ch, ce, tk, he, sd, ed, ip, eq, ls, hl, pl, ir, fd, st, pr, a1, a2, a3, a4, a5, a6, a7, a8, a9, a10, a11, a12, a13, a14, a15, a16, a17, a18, a19, a20, a21) q d := by
  have z : wX_procedure_35 post q d 0 ec sc ch ce tk he sd ed ip eq ls hl pl ir fd st pr a1 a2 a3 a4 a5 a6 a7 a8 a9 a10 a11 a12 a13 a14 a15 a16 a17 a18 a19 a20 a21 := by
    unfold wX_procedure_35
    exact br_t rfl (br_f hd hp)
  unfold wpX_procedure
  exact br_t (by decide) (br_c (fun _ => hp) (fun _ => br_c (fun _ => hp) (fun _ => br_c (fun _ => z) (fun _ => ⟨by decide, br_c (fun _ => hp) (fun _ => z)⟩))))
theorem zc_bodyOk {post : Int32 → St2 → Prop} (hp : post 1 (1, ec, 1, 1, ce, tk, he, sd, ed, ip, eq, ls, hl, pl, ir, fd, st, pr, a1, a2, upd a3 0 0, a4, a5, a6, a7, a8, a9, a10, a11, a12, a13, a14, a15, a16, a17, a18, a19, a20, a21)) : wpX_body post (1, ec, 1, ch, ce, tk, he, sd, ed, ip, eq, ls, hl, pl, ir, fd, st, pr, a1, a2, a3, a4, a5, a6, a7, a8, a9, a10, a11, a12, a13, a14, a15, a16, a17, a18, a19, a20, a21) 0 0 := by
  unfold wpX_body
  unfold wpX_isProcedure
  refine br_f (by decide) (br_f (by decide) (br_f (by decide) ?_))
  unfold wpX_isState
  refine br_f (by decide) (br_f (by decide) (br_f (by decide) ?_))
  exact ⟨pk_in 0 5 (by decide), nm_r (e' := upd a3 0 0) (by rw [sb_cl0]; rfl) hp⟩
theorem zc_bodyNp {post : Int32 → St2 → Prop} (hp : post 0 (0, ec, sc, ch, ce, tk, he, sd, ed, ip, eq, ls, hl, pl, ir, fd, st, pr, a1, a2, a3, a4, a5, a6, a7, a8, a9, a10, a11, a12, a13, a14, a15, a16, a17, a18, a19, a20, a21)) : wpX_body post (0, ec, sc, ch, ce, tk, he, sd, ed, ip, eq, ls, hl, pl, ir, fd, st, pr, a1, a2, a3, a4, a5, a6, a7, a8, a9, a10, a11, a12, a13, a14, a15, a16, a17, a18, a19, a20, a21) 0 0 := by
  unfold wpX_body
  unfold wpX_isProcedure
  exact br_f (by decide) (br_t (by decide) (br_t rfl hp))
theorem zc_bodyNs {post : Int32 → St2 → Prop} (hp : post 0 (1, ec, 0, ch, ce, tk, he, sd, ed, ip, eq, ls, hl, pl, ir, fd, st, pr, a1, a2, a3, a4, a5, a6, a7, a8, a9, a10, a11, a12, a13, a14, a15, a16, a17, a18, a19, a20, a21)) : wpX_body post (1, ec, 0, ch, ce, tk, he, sd, ed, ip, eq, ls, hl, pl, ir, fd, st, pr, a1, a2, a3, a4, a5, a6, a7, a8, a9, a10, a11, a12, a13, a14, a15, a16, a17, a18, a19, a20, a21) 0 0 := by
  unfold wpX_body
  unfold wpX_isProcedure
  refine br_f (by decide) (br_f (by decide) (br_f (by decide) ?_))
  unfold wpX_isState
  exact br_f (by decide) (br_t (by decide) (br_t rfl hp))
theorem zc_out0 {post : Int32 → Prop} {k : Int32} (hp : post 0) : wpX_output post (pc, ec, sc, ch, ce, tk, he, sd, ed, ip, eq, ls, hl, pl, ir, fd, st, 0, a1, a2, a3, a4, a5, a6, a7, a8, a9, a10, a11, a12, a13, a14, a15, a16, a17, a18, a19, a20, a21) k := by
  unfold wpX_output
  exact br_c (fun _ => hp) (fun h => br_t (Int32.not_lt.mp h) hp)
theorem zc_out1 {post : Int32 → Prop} (x : Int32) (hx : a21 0 = x) (hp : post x) : wpX_output post (pc, ec, sc, ch, ce, tk, he, sd, ed, ip, eq, ls, hl, pl, ir, fd, st, 1, a1, a2, a3, a4, a5, a6, a7, a8, a9, a10, a11, a12, a13, a14, a15, a16, a17, a18, a19, a20, a21) 0 := by
  unfold wpX_output
  refine br_f (by decide) (br_f (by decide) (br_t (by decide) ⟨pk_in 0 30 (by decide), ?_⟩))
  rw [sb_cl0, hx]
  exact hp
theorem zc_outK {post : Int32 → Prop} {k : Int32} (hk : ¬ k = 0) (hp : post 0) : wpX_output post (pc, ec, sc, ch, ce, tk, he, sd, ed, ip, eq, ls, hl, pl, ir, fd, st, 1, a1, a2, a3, a4, a5, a6, a7, a8, a9, a10, a11, a12, a13, a14, a15, a16, a17, a18, a19, a20, a21) k := by
  unfold wpX_output
  refine br_c (fun _ => hp) (fun h => br_t ?_ hp)
  rw [Int32.le_iff_toInt_le]
  rw [Int32.lt_iff_toInt_lt] at h
  have c0 : (0 : Int32).toInt = 0 := by decide
  have c1 : (1 : Int32).toInt = 1 := by decide
  have n0 : ¬ k.toInt = 0 := fun e => hk (Int32.toInt_inj.mp (by rw [e, c0]))
  rw [c0] at h
  rw [c1]
  omega
end
end
section
/-- number and main: the run ends, and prints x -/
theorem zc_lawA {x q k : Int32} (h1 : ¬ x < (-32768)) (h2 : ¬ 32767 < x) : wL_lawOf_30 (fun r _ => r = 1) 100 8000 x q 0 k 1 1 0 0 := by
  unfold wL_lawOf_30
  refine ⟨by decide, by decide, 21, 4652, by decide, by decide, ?_⟩
  refine zc_init ?_
  refine zc_expressOk h1 h2 ?_
  refine br_f (by decide) (br_t rfl ?_)
  refine zc_stateOk (by rfl) ?_
  refine br_f (by decide) (br_t rfl ?_)
  refine zc_procOk ?_
  refine br_f (by decide) (br_t rfl ?_)
  refine zc_bodyOk ?_
  refine br_f (by decide) (br_f (by decide) (br_t rfl ?_))
  refine zc_runOk h1 h2 zc_mm0 (by rfl) (by rfl) (by rfl) (by rfl) (by rfl) (by rfl) ?_
  intro pc ec sc ch ce tk he sd ed ip eq ls hl pl ir fd st a1 a2 a3 a4 a5 a6 a7 a8 a9 a10 a11 a12 a13 a14 a15 a16 a17 a18 a19 a20
  refine br_f (by decide) (br_f (by decide) (br_t rfl ?_))
  by_cases hk : k = 0
  · subst hk
    refine zc_out1 x (by rfl) ?_
    exact br_f (by decide) (br_f (by decide) (br_t rfl (br_t rfl rfl)))
  · refine zc_outK hk ?_
    exact br_f (by decide) (br_f (by decide) (br_f hk (br_t rfl rfl)))
/-- number, not main -/
theorem zc_lawB {x q d k : Int32} (h1 : ¬ x < (-32768)) (h2 : ¬ 32767 < x) (hd : ¬ d = 0) : wL_lawOf_30 (fun r _ => r = 1) 100 8000 x q d k 1 0 0 0 := by
  unfold wL_lawOf_30
  refine ⟨by decide, by decide, 21, 4652, by decide, by decide, ?_⟩
  refine zc_init ?_
  refine zc_expressOk h1 h2 ?_
  refine br_f (by decide) (br_t rfl ?_)
  refine zc_stateOk (by rfl) ?_
  refine br_f (by decide) (br_t rfl ?_)
  refine zc_procNo hd ?_
  refine br_t rfl (br_t rfl ?_)
  refine zc_bodyNp ?_
  refine br_f (by decide) (br_t rfl (br_t rfl ?_))
  refine zc_runNo ?_
  refine br_f (by decide) (br_t rfl (br_t rfl ?_))
  refine zc_out0 ?_
  exact br_f (by decide) (br_t rfl (br_t rfl rfl))
/-- no number, main -/
theorem zc_lawC {x q k : Int32} (h : x < (-32768) ∨ 32767 < x) : wL_lawOf_30 (fun r _ => r = 1) 100 8000 x q 0 k 0 1 0 0 := by
  unfold wL_lawOf_30
  refine ⟨by decide, by decide, 21, 4652, by decide, by decide, ?_⟩
  refine zc_init ?_
  refine zc_expressNo h ?_
  refine br_t rfl (br_t rfl ?_)
  refine zc_stateNo ?_
  refine br_t rfl (br_t rfl ?_)
  refine zc_procOk ?_
  refine br_f (by decide) (br_t rfl ?_)
  refine zc_bodyNs ?_
  refine br_t rfl (br_t rfl ?_)
  refine zc_runNb (by rfl) ?_
  refine br_t rfl (br_t rfl ?_)
  refine zc_out0 ?_
  exact br_t rfl (br_t rfl rfl)
/-- neither -/
theorem zc_lawD {x q d k : Int32} (h : x < (-32768) ∨ 32767 < x) (hd : ¬ d = 0) : wL_lawOf_30 (fun r _ => r = 1) 100 8000 x q d k 0 0 0 0 := by
  unfold wL_lawOf_30
  refine ⟨by decide, by decide, 21, 4652, by decide, by decide, ?_⟩
  refine zc_init ?_
  refine zc_expressNo h ?_
  refine br_t rfl (br_t rfl ?_)
  refine zc_stateNo ?_
  refine br_t rfl (br_t rfl ?_)
  refine zc_procNo hd ?_
  refine br_t rfl (br_t rfl ?_)
  refine zc_bodyNp ?_
  refine br_t rfl (br_t rfl ?_)
  refine zc_runNo ?_
  refine br_t rfl (br_t rfl ?_)
  refine zc_out0 ?_
  exact br_t rfl (br_t rfl rfl)
theorem zc_lawOf (x q d k : Int32) : wpL_lawOf (fun r _ => r = 1) 100 8000 () x q d k := by
  have hA : x < (-32768) ∨ 32767 < x → wL_lawOf_19 (fun r _ => r = 1) 100 8000 x q d k 0 0 0 := by
    intro h
    unfold wL_lawOf_19
    exact br_c (fun e => by rw [e]; exact zc_lawC h) (fun e => zc_lawD h e)
  unfold wpL_lawOf
  refine br_c (fun h => hA (Or.inl h)) (fun h1 => br_c (fun h => hA (Or.inr h)) (fun h2 => ?_))
  unfold wL_lawOf_19
  exact br_c (fun e => by rw [e]; exact zc_lawA h1 h2) (fun e => zc_lawB h1 h2 e)
theorem zc_cell (post : Int32 → Prop) (xs : Nat → Int32) (L : Nat) (hL : L ≤ 4) (j : Nat) (hj : j < 4) (hp : ∀ r, post r) : wpL_cellAt post L xs () (nI j) := by
  unfold wpL_cellAt
  exact pk_le L j (fun _ => hp _) (fun z => ⟨pk_in j L z rfl (by omega), hp _⟩)
end
section
theorem i_vc (xs : Nat → Int32) (L : Nat) (hL : L ≤ 4) : wpL_law (fun r => r = 1) L xs := by
  unfold wpL_law
  refine zc_cell _ xs L hL 0 (by decide) (fun x => ?_)
  refine zc_cell _ xs L hL 1 (by decide) (fun q => ?_)
  refine zc_cell _ xs L hL 2 (by decide) (fun d => ?_)
  refine zc_cell _ xs L hL 3 (by decide) (fun k => ?_)
  exact ⟨100, 8000, by decide, by decide, zc_lawOf x q d k⟩
end
