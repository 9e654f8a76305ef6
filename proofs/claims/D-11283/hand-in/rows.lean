section
/-! the picture: bytes, words, memory, registers, all by naturals -/
theorem bz_bb (x : Int32) : x.toInt8.toInt32 &&& 255 = x &&& 255 := by
  apply Int32.toBitVec_inj.mp
  rw [Int32.toBitVec_and, Int32.toBitVec_and, Int8.toBitVec_toInt32, Int32.toBitVec_toInt8]
  apply BitVec.eq_of_getLsbD_eq
  intro i hi
  rw [BitVec.getLsbD_and, BitVec.getLsbD_and]
  have hm : ∀ i < 32, 8 ≤ i → (255 : Int32).toBitVec.getLsbD i = false := by decide
  rcases Nat.lt_or_ge i 8 with z | z
  · rw [BitVec.getLsbD_signExtend, BitVec.getLsbD_signExtend, if_pos z, if_pos hi]
    simp only [z, hi, decide_true, Bool.true_and]
  · rw [hm i hi z]; simp
theorem bz_or (a b : Nat) : nI a ||| nI b = nI (a ||| b) := by
  apply Int32.toBitVec_inj.1
  show BitVec.ofNat 32 a ||| BitVec.ofNat 32 b = BitVec.ofNat 32 (a ||| b)
  apply BitVec.eq_of_getLsbD_eq
  intro i hi
  simp [hi]
def bz_b (n : Nat) : Int32 := (nI n).toInt8.toInt32
def bz_h (n : Nat) : Int32 := (nI n >>> ((8 : Int32) &&& 31)).toInt8.toInt32
theorem bz_an {n : Nat} (h : n < 4096) : nI n &&& 4095 = nI n := by
  rw [pk_andN (by omega) 12 (by decide), Nat.mod_eq_of_lt (by omega)]
theorem bz_am {n : Nat} (h : n < 65536) : nI n &&& 65535 = nI n := by
  rw [pk_andN (by omega) 16 (by decide), Nat.mod_eq_of_lt (by omega)]
theorem bz_rb {n : Nat} (h : n < 256) : bz_b n &&& 255 = nI n := by
  unfold bz_b
  rw [bz_bb, pk_andN (by omega) 8 (by decide), Nat.mod_eq_of_lt (by omega)]
theorem bz_cw {lo hi : Nat} (h1 : lo < 256) (h2 : hi < 256) : nI lo ||| (nI hi <<< ((8 : Int32) &&& 31)) = nI (lo + 256 * hi) := by
  rw [pk_shlN _ 8 (by decide) (by omega), bz_or]
  congr 1
  have e := Nat.shiftLeft_add_eq_or_of_lt (i := 8) (show lo < 2 ^ 8 by omega) hi
  rw [Nat.shiftLeft_eq] at e
  rw [Nat.or_comm, ← e]
  omega
theorem bz_rw {w : Nat} (h : w < 65536) : (bz_b w &&& 255) ||| ((bz_h w &&& 255) <<< ((8 : Int32) &&& 31)) = nI w := by
  unfold bz_b bz_h
  rw [bz_bb, bz_bb, pk_shrN (by omega) _ 8 (by decide), pk_andN (by omega) 8 (by decide), pk_andN (by omega) 8 (by decide), bz_cw (by omega) (by omega)]
  congr 1
  omega
def bz_mem (st ac : Nat) (C H : List Nat) : Nat → Int32 := fun j =>
  if j < 32 then (if j = 2 then bz_b st else if j = 3 then bz_h st else if j = 4 then bz_b ac else if j = 5 then bz_h ac else 0)
  else if j < 2048 then bz_b (C.getD (j - 32) 0)
  else if j % 2 = 0 then bz_b (H.getD ((4094 - j) / 2) 0) else bz_h (H.getD ((4095 - j) / 2) 0)
def bz_rg (R : List Nat) : Nat → Int32 := fun j => nI (R.getD j 0)
theorem bz_gs {L : List Nat} {i : Nat} (h : i < L.length) (x : Nat) (j : Nat) : (L.set i x).getD j 0 = if j = i then x else L.getD j 0 := by
  simp only [List.getD_eq_getElem?_getD, List.getElem?_set]
  by_cases e : i = j
  · subst e
    simp [h]
  · rw [if_neg e, if_neg (fun z => e z.symm)]
theorem bz_ga (L : List Nat) (x j : Nat) : (L ++ [x]).getD j 0 = if j = L.length then x else L.getD j 0 := by
  simp only [List.getD_eq_getElem?_getD, List.getElem?_append]
  by_cases e : j < L.length
  · rw [if_pos e, if_neg (by omega)]
  · rw [if_neg e]
    by_cases e' : j = L.length
    · subst e'
      simp
    · rw [if_neg e', List.getElem?_eq_none (by simp; omega), List.getElem?_eq_none (by omega)]
theorem bz_set_rg {R : List Nat} {i : Nat} (h : i < R.length) (x : Nat) : upd (bz_rg R) i (nI x) = bz_rg (R.set i x) := by
  funext j
  unfold upd bz_rg
  rw [bz_gs h]
  split <;> rfl
theorem bz_mem_c {st ac : Nat} {C H : List Nat} {j : Nat} (h1 : 32 ≤ j) (h2 : j < 2048) : bz_mem st ac C H j = bz_b (C.getD (j - 32) 0) := by
  unfold bz_mem
  rw [if_neg (by omega), if_pos h2]
theorem bz_mem_l {st ac : Nat} {C H : List Nat} {k : Nat} (h1 : k ≤ 1000) : bz_mem st ac C H (4094 - 2 * k) = bz_b (H.getD k 0) := by
  unfold bz_mem
  rw [if_neg (by omega), if_neg (by omega), if_pos (by omega), show (4094 - (4094 - 2 * k)) / 2 = k by omega]
theorem bz_mem_h {st ac : Nat} {C H : List Nat} {k : Nat} (h1 : k ≤ 1000) : bz_mem st ac C H (4094 - 2 * k + 1) = bz_h (H.getD k 0) := by
  unfold bz_mem
  rw [if_neg (by omega), if_neg (by omega), if_neg (by omega), show (4095 - (4094 - 2 * k + 1)) / 2 = k by omega]
theorem bz_set_st {st ac : Nat} {C H : List Nat} (w : Nat) : upd (upd (bz_mem st ac C H) 2 (bz_b w)) (2 + 1) (bz_h w) = bz_mem w ac C H := by
  funext j
  unfold upd bz_mem
  by_cases e2 : j = 2
  · subst e2
    simp
  by_cases e3 : j = 3
  · subst e3
    simp
  simp [e2, e3]
theorem bz_set_ac {st ac : Nat} {C H : List Nat} (w : Nat) : upd (upd (bz_mem st ac C H) 4 (bz_b w)) (4 + 1) (bz_h w) = bz_mem st w C H := by
  funext j
  unfold upd bz_mem
  by_cases e2 : j = 4
  · subst e2
    simp
  by_cases e3 : j = 5
  · subst e3
    simp
  simp [e2, e3]
theorem bz_set_H {st ac : Nat} {C H : List Nat} {k : Nat} (h0 : 1 ≤ k) (h1 : k ≤ 1000) (h2 : k < H.length) (w : Nat) : upd (upd (bz_mem st ac C H) (4094 - 2 * k) (bz_b w)) (4094 - 2 * k + 1) (bz_h w) = bz_mem st ac C (H.set k w) := by
  funext j
  unfold upd bz_mem
  by_cases e1 : j < 32
  · rw [if_neg (by omega), if_neg (by omega), if_pos e1, if_pos e1]
  by_cases e2 : j < 2048
  · rw [if_neg (by omega), if_neg (by omega), if_neg e1, if_neg e1, if_pos e2, if_pos e2]
  rw [if_neg e1, if_neg e1, if_neg e2, if_neg e2, bz_gs h2, bz_gs h2]
  by_cases e3 : j % 2 = 0
  · rw [if_neg (by omega), if_pos e3, if_pos e3]
    by_cases e4 : j = 4094 - 2 * k
    · rw [if_pos e4, if_pos (by omega)]
    · rw [if_neg e4, if_neg (by omega)]
  · rw [if_neg e3, if_neg e3]
    by_cases e4 : j = 4094 - 2 * k + 1
    · rw [if_pos e4, if_pos (by omega)]
    · rw [if_neg e4, if_neg (by omega), if_neg (by omega)]
theorem bz_app {st ac : Nat} {C H : List Nat} (h : C.length < 2000) (x : Nat) : upd (bz_mem st ac C H) (32 + C.length) (bz_b x) = bz_mem st ac (C ++ [x]) H := by
  funext j
  unfold upd bz_mem
  by_cases e1 : j < 32
  · rw [if_neg (by omega), if_pos e1, if_pos e1]
  by_cases e2 : j < 2048
  · rw [if_neg e1, if_neg e1, if_pos e2, if_pos e2, bz_ga]
    by_cases e3 : j = 32 + C.length
    · rw [if_pos e3, if_pos (by omega)]
    · rw [if_neg e3, if_neg (by omega)]
  · rw [if_neg (by omega), if_neg e1, if_neg e1, if_neg e2, if_neg e2]
theorem bz_set_C {st ac : Nat} {C H : List Nat} {i : Nat} (h : i < C.length) (h' : C.length < 2000) (x : Nat) : upd (bz_mem st ac C H) (32 + i) (bz_b x) = bz_mem st ac (C.set i x) H := by
  funext j
  unfold upd bz_mem
  by_cases e1 : j < 32
  · rw [if_neg (by omega), if_pos e1, if_pos e1]
  by_cases e2 : j < 2048
  · rw [if_neg e1, if_neg e1, if_pos e2, if_pos e2, bz_gs h]
    by_cases e3 : j = 32 + i
    · rw [if_pos e3, if_pos (by omega)]
    · rw [if_neg e3, if_neg (by omega)]
  · rw [if_neg (by omega), if_neg e1, if_neg e1, if_neg e2, if_neg e2]
end
section
section
variable {post : St2 → Prop} {po2 : Int32 → St2 → Prop} {po1 : Int32 → Prop} {k1 k2 k3 k4 k5 k6 k7 k8 k9 k10 k11 k12 k13 k14 k15 k16 k17 k18 : Int32} {a1 a2 a3 a4 a5 a6 a7 a8 a9 a10 a11 a12 a13 a14 a15 a16 a17 a18 a19 a20 a21 : Nat → Int32} {st ac pc : Nat} {C H R : List Nat}
theorem bz_byteAt {p : Int32} (j : Nat) (hp : p &&& 4095 = nI j) (hj : j < 4096) (h : po1 (a18 j &&& 255)) : wpX_byteAt po1 (k1, k2, k3, k4, k5, k6, k7, k8, k9, k10, k11, k12, k13, k14, k15, k16, k17, k18, a1, a2, a3, a4, a5, a6, a7, a8, a9, a10, a11, a12, a13, a14, a15, a16, a17, a18, a19, a20, a21) p := by
  unfold wpX_byteAt
  show vp_in (p &&& 4095) 4096 ∧ po1 (a18 (p &&& 4095).toNatClampNeg &&& 255)
  rw [hp, nI_clamp (by omega)]
  exact ⟨vp_in_nI hj (by decide), h⟩
theorem bz_wordAt {p : Int32} (j w : Nat) (hp : p = nI j) (hj : j + 1 < 4096) (hw : (a18 j &&& 255) ||| ((a18 (j + 1) &&& 255) <<< ((8 : Int32) &&& 31)) = nI w) (h : po1 (nI w)) : wpX_wordAt po1 (k1, k2, k3, k4, k5, k6, k7, k8, k9, k10, k11, k12, k13, k14, k15, k16, k17, k18, a1, a2, a3, a4, a5, a6, a7, a8, a9, a10, a11, a12, a13, a14, a15, a16, a17, a18, a19, a20, a21) p := by
  unfold wpX_wordAt
  refine bz_byteAt j (by rw [hp]; exact bz_an (by omega)) (by omega) ?_
  refine bz_byteAt (j + 1) (by rw [hp, nI_1]; exact bz_an hj) hj ?_
  rw [← hw] at h
  exact h
theorem bz_setWord {p x : Int32} {M : Nat → Int32} (j : Nat) (hp : p = nI j) (hj : j + 1 < 4096) (hM : upd (upd a18 j x.toInt8.toInt32) (j + 1) ((x >>> ((8 : Int32) &&& 31)).toInt8.toInt32) = M) (h : post (k1, k2, k3, k4, k5, k6, k7, k8, k9, k10, k11, k12, k13, k14, k15, k16, k17, k18, a1, a2, a3, a4, a5, a6, a7, a8, a9, a10, a11, a12, a13, a14, a15, a16, a17, M, a19, a20, a21)) : wpX_setWord post (k1, k2, k3, k4, k5, k6, k7, k8, k9, k10, k11, k12, k13, k14, k15, k16, k17, k18, a1, a2, a3, a4, a5, a6, a7, a8, a9, a10, a11, a12, a13, a14, a15, a16, a17, a18, a19, a20, a21) p x := by
  subst hp
  have e0 : nI j &&& 4095 = nI j := bz_an (by omega)
  have e1 : (nI j + 1) &&& 4095 = nI (j + 1) := by rw [nI_1]; exact bz_an hj
  unfold wpX_setWord
  refine ⟨by rw [e0]; exact vp_in_nI (by omega) (by decide), ?_⟩
  refine nm_r (by rw [e0, nI_clamp (by omega)]) ?_
  refine ⟨by rw [e1]; exact vp_in_nI (by omega) (by decide), ?_⟩
  exact nm_r (by rw [e1, nI_clamp (by omega)]; exact hM) h
theorem bz_next (b : Nat) (h1 : 32 ≤ pc) (h2 : pc < 2048) (hb : C.getD (pc - 32) 0 = b) (hb' : b < 256) (h : po2 (nI b) (k1, k2, k3, k4, k5, k6, k7, k8, k9, nI (pc + 1), k11, k12, k13, k14, k15, k16, k17, k18, a1, a2, a3, a4, a5, a6, a7, a8, a9, a10, a11, a12, a13, a14, a15, a16, a17, bz_mem st ac C H, a19, a20, a21)) : wpX_next po2 (k1, k2, k3, k4, k5, k6, k7, k8, k9, nI pc, k11, k12, k13, k14, k15, k16, k17, k18, a1, a2, a3, a4, a5, a6, a7, a8, a9, a10, a11, a12, a13, a14, a15, a16, a17, bz_mem st ac C H, a19, a20, a21) := by
  unfold wpX_next
  refine bz_byteAt pc (bz_an (by omega)) (by omega) ?_
  rw [bz_mem_c h1 h2, hb, bz_rb hb']
  exact nm_r (nI_1 pc) h
theorem bz_next_2 (b : Nat) (h1 : 32 ≤ pc) (h2 : pc < 2048) (hb : C.getD (pc - 32) 0 = b) (hb' : b < 256) (h : po2 (nI b) (k1, k2, k3, k4, k5, k6, k7, k8, k9, nI (pc + 1), k11, k12, k13, k14, k15, k16, k17, k18, a1, a2, a3, a4, a5, a6, a7, a8, a9, a10, a11, a12, a13, a14, a15, a16, a17, bz_mem st ac C H, a19, a20, a21)) : wpX_next_2 po2 (k1, k2, k3, k4, k5, k6, k7, k8, k9, nI pc, k11, k12, k13, k14, k15, k16, k17, k18, a1, a2, a3, a4, a5, a6, a7, a8, a9, a10, a11, a12, a13, a14, a15, a16, a17, bz_mem st ac C H, a19, a20, a21) := by
  unfold wpX_next_2
  refine bz_byteAt pc (bz_an (by omega)) (by omega) ?_
  rw [bz_mem_c h1 h2, hb, bz_rb hb']
  exact nm_r (nI_1 pc) h
theorem bz_nextWord (lo hi w : Nat) (h1 : 32 ≤ pc) (h2 : pc + 1 < 2048) (hl : C.getD (pc - 32) 0 = lo) (hh : C.getD (pc + 1 - 32) 0 = hi) (hl' : lo < 256) (hh' : hi < 256) (hw : lo + 256 * hi = w) (h : po2 (nI w) (k1, k2, k3, k4, k5, k6, k7, k8, k9, nI (pc + 2), k11, k12, k13, k14, k15, k16, k17, k18, a1, a2, a3, a4, a5, a6, a7, a8, a9, a10, a11, a12, a13, a14, a15, a16, a17, bz_mem st ac C H, a19, a20, a21)) : wpX_nextWord po2 (k1, k2, k3, k4, k5, k6, k7, k8, k9, nI pc, k11, k12, k13, k14, k15, k16, k17, k18, a1, a2, a3, a4, a5, a6, a7, a8, a9, a10, a11, a12, a13, a14, a15, a16, a17, bz_mem st ac C H, a19, a20, a21) := by
  unfold wpX_nextWord
  refine bz_next lo h1 (by omega) hl hl' ?_
  refine bz_next hi (by omega) (by omega) hh hh' ?_
  have e := bz_cw hl' hh'
  rw [hw] at e
  rw [← e] at h
  exact h
theorem bz_nextWord_2 (lo hi w : Nat) (h1 : 32 ≤ pc) (h2 : pc + 1 < 2048) (hl : C.getD (pc - 32) 0 = lo) (hh : C.getD (pc + 1 - 32) 0 = hi) (hl' : lo < 256) (hh' : hi < 256) (hw : lo + 256 * hi = w) (h : po2 (nI w) (k1, k2, k3, k4, k5, k6, k7, k8, k9, nI (pc + 2), k11, k12, k13, k14, k15, k16, k17, k18, a1, a2, a3, a4, a5, a6, a7, a8, a9, a10, a11, a12, a13, a14, a15, a16, a17, bz_mem st ac C H, a19, a20, a21)) : wpX_nextWord_2 po2 (k1, k2, k3, k4, k5, k6, k7, k8, k9, nI pc, k11, k12, k13, k14, k15, k16, k17, k18, a1, a2, a3, a4, a5, a6, a7, a8, a9, a10, a11, a12, a13, a14, a15, a16, a17, bz_mem st ac C H, a19, a20, a21) := by
  unfold wpX_nextWord_2
  refine bz_next_2 lo h1 (by omega) hl hl' ?_
  refine bz_next_2 hi (by omega) (by omega) hh hh' ?_
  have e := bz_cw hl' hh'
  rw [hw] at e
  rw [← e] at h
  exact h
theorem bz_wH {k w : Nat} (hk : k ≤ 1000) (hw : H.getD k 0 = w) (hw' : w < 65536) : (bz_mem st ac C H (4094 - 2 * k) &&& 255) ||| ((bz_mem st ac C H (4094 - 2 * k + 1) &&& 255) <<< ((8 : Int32) &&& 31)) = nI w := by
  rw [bz_mem_l hk, bz_mem_h hk, hw, bz_rw hw']
theorem bz_wC {j lo hi w : Nat} (h1 : 32 ≤ j) (h2 : j + 1 < 2048) (hl : C.getD (j - 32) 0 = lo) (hh : C.getD (j + 1 - 32) 0 = hi) (hl' : lo < 256) (hh' : hi < 256) (hw : lo + 256 * hi = w) : (bz_mem st ac C H j &&& 255) ||| ((bz_mem st ac C H (j + 1) &&& 255) <<< ((8 : Int32) &&& 31)) = nI w := by
  rw [bz_mem_c h1 (by omega), bz_mem_c (by omega) h2, hl, hh, bz_rb hl', bz_rb hh', bz_cw hl' hh', hw]
theorem bz_wst (hw' : st < 65536) : (bz_mem st ac C H 2 &&& 255) ||| ((bz_mem st ac C H (2 + 1) &&& 255) <<< ((8 : Int32) &&& 31)) = nI st := bz_rw hw'
theorem bz_wac (hw' : ac < 65536) : (bz_mem st ac C H 4 &&& 255) ||| ((bz_mem st ac C H (4 + 1) &&& 255) <<< ((8 : Int32) &&& 31)) = nI ac := bz_rw hw'
theorem bz_push {x : Int32} {R' H' : List Nat} (w k : Nat) (hx : x = nI w) (hR : R.length = 8) (hH : H.length = 18) (hk : k + 1 < 18) (hs : R.getD 4 0 = 4094 - 2 * k) (eR : R.set 4 (4094 - 2 * (k + 1)) = R') (eH : H.set (k + 1) w = H') (h : post (k1, k2, k3, k4, k5, k6, k7, k8, k9, k10, k11, k12, k13, k14, k15, k16, k17, k18, a1, a2, a3, a4, a5, a6, a7, a8, a9, a10, a11, a12, a13, a14, a15, a16, a17, bz_mem st ac C H', bz_rg R', a20, a21)) : wpX_push post (k1, k2, k3, k4, k5, k6, k7, k8, k9, k10, k11, k12, k13, k14, k15, k16, k17, k18, a1, a2, a3, a4, a5, a6, a7, a8, a9, a10, a11, a12, a13, a14, a15, a16, a17, bz_mem st ac C H, bz_rg R, a20, a21) x := by
  have e : ((bz_rg R 4) - 2) &&& 65535 = nI (4094 - 2 * (k + 1)) := by
    show ((nI (R.getD 4 0)) - nI 2) &&& 65535 = _
    rw [hs, pk_sub (by omega), bz_am (by omega), show 4094 - 2 * k - 2 = 4094 - 2 * (k + 1) by omega]
  unfold wpX_push
  refine nm_r (by rw [e, bz_set_rg (by omega), eR]) ?_
  refine bz_setWord (4094 - 2 * (k + 1)) ?_ (by omega) ?_ h
  · rw [← eR]
    unfold bz_rg
    rw [bz_gs (by omega), if_pos rfl]
  · rw [hx, ← eH]
    exact bz_set_H (by omega) (by omega) (by omega) w
theorem bz_pop {R' : List Nat} (w k : Nat) (hR : R.length = 8) (hk1 : 1 ≤ k) (hk : k < 18) (hs : R.getD 4 0 = 4094 - 2 * k) (hw : H.getD k 0 = w) (hw' : w < 65536) (eR : R.set 4 (4094 - 2 * (k - 1)) = R') (h : po2 (nI w) (k1, k2, k3, k4, k5, k6, k7, k8, k9, k10, k11, k12, k13, k14, k15, k16, k17, k18, a1, a2, a3, a4, a5, a6, a7, a8, a9, a10, a11, a12, a13, a14, a15, a16, a17, bz_mem st ac C H, bz_rg R', a20, a21)) : wpX_pop po2 (k1, k2, k3, k4, k5, k6, k7, k8, k9, k10, k11, k12, k13, k14, k15, k16, k17, k18, a1, a2, a3, a4, a5, a6, a7, a8, a9, a10, a11, a12, a13, a14, a15, a16, a17, bz_mem st ac C H, bz_rg R, a20, a21) := by
  have e : ((bz_rg R 4) + 2) &&& 65535 = nI (4094 - 2 * (k - 1)) := by
    show ((nI (R.getD 4 0)) + nI 2) &&& 65535 = _
    rw [hs, nI_add, bz_am (by omega), show 4094 - 2 * k + 2 = 4094 - 2 * (k - 1) by omega]
  unfold wpX_pop
  refine bz_wordAt (4094 - 2 * k) w (by unfold bz_rg; rw [hs]) (by omega) (bz_wH (by omega) hw hw') ?_
  exact nm_r (by rw [e, bz_set_rg (by omega), eR]) h
theorem bz_pop_2 {R' : List Nat} (w k : Nat) (hR : R.length = 8) (hk1 : 1 ≤ k) (hk : k < 18) (hs : R.getD 4 0 = 4094 - 2 * k) (hw : H.getD k 0 = w) (hw' : w < 65536) (eR : R.set 4 (4094 - 2 * (k - 1)) = R') (h : po2 (nI w) (k1, k2, k3, k4, k5, k6, k7, k8, k9, k10, k11, k12, k13, k14, k15, k16, k17, k18, a1, a2, a3, a4, a5, a6, a7, a8, a9, a10, a11, a12, a13, a14, a15, a16, a17, bz_mem st ac C H, bz_rg R', a20, a21)) : wpX_pop_2 po2 (k1, k2, k3, k4, k5, k6, k7, k8, k9, k10, k11, k12, k13, k14, k15, k16, k17, k18, a1, a2, a3, a4, a5, a6, a7, a8, a9, a10, a11, a12, a13, a14, a15, a16, a17, bz_mem st ac C H, bz_rg R, a20, a21) := by
  have e : ((bz_rg R 4) + 2) &&& 65535 = nI (4094 - 2 * (k - 1)) := by
    show ((nI (R.getD 4 0)) + nI 2) &&& 65535 = _
    rw [hs, nI_add, bz_am (by omega), show 4094 - 2 * k + 2 = 4094 - 2 * (k - 1) by omega]
  unfold wpX_pop_2
  refine bz_wordAt (4094 - 2 * k) w (by unfold bz_rg; rw [hs]) (by omega) (bz_wH (by omega) hw hw') ?_
  exact nm_r (by rw [e, bz_set_rg (by omega), eR]) h
theorem bz_dec3 (b fd lo : Nat) (h1 : 32 ≤ pc) (h2 : pc < 2048) (hb : C.getD (pc - 32) 0 = b) (hb' : b < 256) (e1 : (nI b >>> ((3 : Int32) &&& 31)) &&& 7 = nI fd) (e2 : nI b >>> ((6 : Int32) &&& 31) = 3) (e3 : nI b &&& 7 = nI lo) (h : post (k1, k2, k3, k4, k5, k6, k7, k8, k9, nI (pc + 1), k11, k12, k13, nI lo, 1, nI fd, k17, k18, a1, a2, a3, a4, a5, a6, a7, a8, a9, a10, a11, a12, a13, a14, a15, a16, a17, bz_mem st ac C H, a19, a20, a21)) : wpX_decode post (k1, k2, k3, k4, k5, k6, k7, k8, k9, nI pc, k11, k12, k13, k14, k15, k16, k17, k18, a1, a2, a3, a4, a5, a6, a7, a8, a9, a10, a11, a12, a13, a14, a15, a16, a17, bz_mem st ac C H, a19, a20, a21) := by
  unfold wpX_decode
  refine bz_next b h1 h2 hb hb' ?_
  refine nm_r e1 (nm_r e2 (nm_r e3 ?_))
  refine br_t rfl ?_
  exact ⟨rfl, rfl, br_f (by decide) h⟩
theorem bz_dec06 (b fd lo hi w : Nat) (h1 : 32 ≤ pc) (h2 : pc + 2 < 2048) (hb : C.getD (pc - 32) 0 = b) (hb' : b < 256) (e1 : (nI b >>> ((3 : Int32) &&& 31)) &&& 7 = nI fd) (e2 : nI b >>> ((6 : Int32) &&& 31) = 0) (e3 : nI b &&& 7 = 6) (hl : C.getD (pc + 1 - 32) 0 = lo) (hh : C.getD (pc + 2 - 32) 0 = hi) (hl' : lo < 256) (hh' : hi < 256) (hw : lo + 256 * hi = w) (h : post (k1, k2, k3, k4, k5, k6, k7, k8, k9, nI (pc + 3), k11, k12, k13, nI w, 0, nI fd, k17, k18, a1, a2, a3, a4, a5, a6, a7, a8, a9, a10, a11, a12, a13, a14, a15, a16, a17, bz_mem st ac C H, a19, a20, a21)) : wpX_decode post (k1, k2, k3, k4, k5, k6, k7, k8, k9, nI pc, k11, k12, k13, k14, k15, k16, k17, k18, a1, a2, a3, a4, a5, a6, a7, a8, a9, a10, a11, a12, a13, a14, a15, a16, a17, bz_mem st ac C H, a19, a20, a21) := by
  unfold wpX_decode
  refine bz_next b h1 (by omega) hb hb' ?_
  refine nm_r e1 (nm_r e2 (nm_r e3 ?_))
  refine br_f (by decide) ?_
  refine ⟨rfl, rfl, br_t rfl (br_t rfl (br_t rfl ?_))⟩
  exact bz_nextWord lo hi w (by omega) (by omega) hl hh hl' hh' hw h
theorem bz_dec07 (b fd w : Nat) (h1 : 32 ≤ pc) (h2 : pc < 2048) (hb : C.getD (pc - 32) 0 = b) (hb' : b < 256) (e1 : (nI b >>> ((3 : Int32) &&& 31)) &&& 7 = nI fd) (e2 : nI b >>> ((6 : Int32) &&& 31) = 0) (e3 : nI b &&& 7 = 7) (hw : R.getD 3 0 = w) (h : post (k1, k2, k3, k4, k5, k6, k7, k8, k9, nI (pc + 1), k11, k12, k13, nI w, 0, nI fd, k17, k18, a1, a2, a3, a4, a5, a6, a7, a8, a9, a10, a11, a12, a13, a14, a15, a16, a17, bz_mem st ac C H, bz_rg R, a20, a21)) : wpX_decode post (k1, k2, k3, k4, k5, k6, k7, k8, k9, nI pc, k11, k12, k13, k14, k15, k16, k17, k18, a1, a2, a3, a4, a5, a6, a7, a8, a9, a10, a11, a12, a13, a14, a15, a16, a17, bz_mem st ac C H, bz_rg R, a20, a21) := by
  unfold wpX_decode
  refine bz_next b h1 (by omega) hb hb' ?_
  refine nm_r e1 (nm_r e2 (nm_r e3 ?_))
  refine br_f (by decide) ?_
  refine ⟨rfl, rfl, br_t rfl (br_t rfl (br_f (by decide) ?_))⟩
  exact nm_r (by unfold bz_rg; rw [hw]) h
theorem bz_dec16 (b fd d bp w : Nat) (h1 : 32 ≤ pc) (h2 : pc + 1 < 2048) (hb : C.getD (pc - 32) 0 = b) (hb' : b < 256) (e1 : (nI b >>> ((3 : Int32) &&& 31)) &&& 7 = nI fd) (e2 : nI b >>> ((6 : Int32) &&& 31) = 1) (e3 : nI b &&& 7 = 6) (hd : C.getD (pc + 1 - 32) 0 = d) (hd' : d < 256) (hbp : R.getD 5 0 = bp) (hw : (nI bp + (nI d).toInt8.toInt32) &&& 65535 = nI w) (h : post (k1, k2, k3, k4, k5, k6, k7, k8, k9, nI (pc + 2), k11, k12, k13, nI w, 0, nI fd, k17, k18, a1, a2, a3, a4, a5, a6, a7, a8, a9, a10, a11, a12, a13, a14, a15, a16, a17, bz_mem st ac C H, bz_rg R, a20, a21)) : wpX_decode post (k1, k2, k3, k4, k5, k6, k7, k8, k9, nI pc, k11, k12, k13, k14, k15, k16, k17, k18, a1, a2, a3, a4, a5, a6, a7, a8, a9, a10, a11, a12, a13, a14, a15, a16, a17, bz_mem st ac C H, bz_rg R, a20, a21) := by
  unfold wpX_decode
  refine bz_next b h1 (by omega) hb hb' ?_
  refine nm_r e1 (nm_r e2 (nm_r e3 ?_))
  refine br_f (by decide) ?_
  refine ⟨rfl, rfl, br_t rfl (br_f (by decide) ?_)⟩
  refine bz_next d (by omega) (by omega) hd hd' ?_
  refine br_f (by decide) ?_
  exact nm_r (by unfold bz_rg; rw [hbp]; exact hw) h
theorem bz_opR (lo w : Nat) (hl : lo < 8) (hw : R.getD lo 0 = w) (h : po1 (nI w)) : wpX_operand po1 (k1, k2, k3, k4, k5, k6, k7, k8, k9, k10, k11, k12, k13, nI lo, 1, k16, k17, k18, a1, a2, a3, a4, a5, a6, a7, a8, a9, a10, a11, a12, a13, a14, a15, a16, a17, a18, bz_rg R, a20, a21) := by
  unfold wpX_operand
  refine br_f (by decide) ⟨vp_in_nI hl (by decide), ?_⟩
  rw [nI_clamp (by omega)]
  unfold bz_rg
  rw [hw]
  exact h
theorem bz_op0 (j w : Nat) (hj : j + 1 < 4096) (hw : (a18 j &&& 255) ||| ((a18 (j + 1) &&& 255) <<< ((8 : Int32) &&& 31)) = nI w) (h : po1 (nI w)) : wpX_operand po1 (k1, k2, k3, k4, k5, k6, k7, k8, k9, k10, k11, k12, k13, nI j, 0, k16, k17, k18, a1, a2, a3, a4, a5, a6, a7, a8, a9, a10, a11, a12, a13, a14, a15, a16, a17, a18, a19, a20, a21) := by
  unfold wpX_operand
  exact br_t rfl (bz_wordAt j w rfl hj hw h)
theorem bz_so0 {x : Int32} {M : Nat → Int32} (j : Nat) (hj : j + 1 < 4096) (hM : upd (upd a18 j x.toInt8.toInt32) (j + 1) ((x >>> ((8 : Int32) &&& 31)).toInt8.toInt32) = M) (h : post (k1, k2, k3, k4, k5, k6, k7, k8, k9, k10, k11, k12, k13, nI j, 0, k16, k17, k18, a1, a2, a3, a4, a5, a6, a7, a8, a9, a10, a11, a12, a13, a14, a15, a16, a17, M, a19, a20, a21)) : wpX_setOperand post (k1, k2, k3, k4, k5, k6, k7, k8, k9, k10, k11, k12, k13, nI j, 0, k16, k17, k18, a1, a2, a3, a4, a5, a6, a7, a8, a9, a10, a11, a12, a13, a14, a15, a16, a17, a18, a19, a20, a21) x := by
  unfold wpX_setOperand
  exact br_t rfl (bz_setWord j rfl hj hM h)
theorem bz_cmp {x y : Int32} (z l : Int32) (hz : z = if (x &&& 65535) = (y &&& 65535) then 1 else 0) (hl : l = if y.toInt16.toInt32 ≤ x.toInt16.toInt32 then 0 else 1) (h : post (k1, k2, k3, k4, k5, k6, k7, k8, k9, k10, z, l, k13, k14, k15, k16, k17, k18, a1, a2, a3, a4, a5, a6, a7, a8, a9, a10, a11, a12, a13, a14, a15, a16, a17, a18, a19, a20, a21)) : wpX_compare post (k1, k2, k3, k4, k5, k6, k7, k8, k9, k10, k11, k12, k13, k14, k15, k16, k17, k18, a1, a2, a3, a4, a5, a6, a7, a8, a9, a10, a11, a12, a13, a14, a15, a16, a17, a18, a19, a20, a21) x y := by
  unfold wpX_compare
  by_cases e1 : (x &&& 65535) = (y &&& 65535)
  · rw [if_pos e1] at hz
    subst hz
    refine br_t e1 ⟨rfl, rfl, ?_⟩
    by_cases e2 : y.toInt16.toInt32 ≤ x.toInt16.toInt32
    · rw [if_pos e2] at hl
      subst hl
      exact br_t e2 h
    · rw [if_neg e2] at hl
      subst hl
      exact br_f e2 h
  · rw [if_neg e1] at hz
    subst hz
    refine br_f e1 ⟨rfl, rfl, ?_⟩
    by_cases e2 : y.toInt16.toInt32 ≤ x.toInt16.toInt32
    · rw [if_pos e2] at hl
      subst hl
      exact br_t e2 h
    · rw [if_neg e2] at hl
      subst hl
      exact br_f e2 h
end
end
section
theorem bz_c500 : ∀ s, s < 500 → ((0 : Int32) = if (nI s &&& 65535) = (nI 500 &&& 65535) then 1 else 0) ∧ ((1 : Int32) = if (nI 500).toInt16.toInt32 ≤ (nI s).toInt16.toInt32 then 0 else 1) := by decide +kernel
theorem bz_c12 : ∀ s, s < 12 → ((0 : Int32) = if (nI s &&& 65535) = ((nI 12).toInt8.toInt32 &&& 65535) then 1 else 0) ∧ ((1 : Int32) = if (nI 12).toInt8.toInt32.toInt16.toInt32 ≤ (nI s).toInt16.toInt32 then 0 else 1) := by decide +kernel
section
variable {post : St2 → Prop} {po2 : Int32 → St2 → Prop} {po1 : Int32 → Prop} {k1 k2 k3 k4 k5 k6 k7 k8 k9 k10 k11 k12 k13 k14 k15 k16 k17 k18 : Int32} {a1 a2 a3 a4 a5 a6 a7 a8 a9 a10 a11 a12 a13 a14 a15 a16 a17 a18 a19 a20 a21 : Nat → Int32} {st ac pc : Nat} {C H R : List Nat}
theorem bz_iPush0 (pc' k w : Nat) (R' H' : List Nat) (h : post (k1, k2, k3, k4, k5, k6, k7, k8, k9, nI pc', k11, k12, k13, k14, k15, k16, k17, k18, a1, a2, a3, a4, a5, a6, a7, a8, a9, a10, a11, a12, a13, a14, a15, a16, a17, bz_mem st ac C H', bz_rg R', a20, a21)) (h1 : 32 ≤ pc := by decide) (h2 : pc + 8 < 2048 := by decide) (hb0 : C.getD (pc - 32) 0 = 80 := by rfl) (hpc : pc + 1 = pc' := by rfl) (hw : R.getD 0 0 = w := by rfl) (hR : R.length = 8 := by rfl) (hH : H.length = 18 := by rfl) (hk : k + 1 < 18 := by decide) (hs : R.getD 4 0 = 4094 - 2 * k := by rfl) (eR : R.set 4 (4094 - 2 * (k + 1)) = R' := by rfl) (eH : H.set (k + 1) w = H' := by rfl) : wpX_step post (k1, k2, k3, k4, k5, k6, k7, k8, k9, nI pc, k11, k12, k13, k14, k15, k16, k17, k18, a1, a2, a3, a4, a5, a6, a7, a8, a9, a10, a11, a12, a13, a14, a15, a16, a17, bz_mem st ac C H, bz_rg R, a20, a21) := by
  subst hpc
  unfold wpX_step
  refine bz_next 80 h1 (by omega) hb0 (by decide) ?_
  refine br_f (by decide) ?_
  refine br_f (by decide) ?_
  refine ⟨vp_in_iff.mpr (by decide), ?_⟩
  exact bz_push w k (by show bz_rg R 0 = nI w; unfold bz_rg; rw [hw]) hR hH hk hs eR eH h
theorem bz_iPush5 (pc' k w : Nat) (R' H' : List Nat) (h : post (k1, k2, k3, k4, k5, k6, k7, k8, k9, nI pc', k11, k12, k13, k14, k15, k16, k17, k18, a1, a2, a3, a4, a5, a6, a7, a8, a9, a10, a11, a12, a13, a14, a15, a16, a17, bz_mem st ac C H', bz_rg R', a20, a21)) (h1 : 32 ≤ pc := by decide) (h2 : pc + 8 < 2048 := by decide) (hb0 : C.getD (pc - 32) 0 = 85 := by rfl) (hpc : pc + 1 = pc' := by rfl) (hw : R.getD 5 0 = w := by rfl) (hR : R.length = 8 := by rfl) (hH : H.length = 18 := by rfl) (hk : k + 1 < 18 := by decide) (hs : R.getD 4 0 = 4094 - 2 * k := by rfl) (eR : R.set 4 (4094 - 2 * (k + 1)) = R' := by rfl) (eH : H.set (k + 1) w = H' := by rfl) : wpX_step post (k1, k2, k3, k4, k5, k6, k7, k8, k9, nI pc, k11, k12, k13, k14, k15, k16, k17, k18, a1, a2, a3, a4, a5, a6, a7, a8, a9, a10, a11, a12, a13, a14, a15, a16, a17, bz_mem st ac C H, bz_rg R, a20, a21) := by
  subst hpc
  unfold wpX_step
  refine bz_next 85 h1 (by omega) hb0 (by decide) ?_
  refine br_f (by decide) ?_
  refine br_f (by decide) ?_
  refine ⟨vp_in_iff.mpr (by decide), ?_⟩
  exact bz_push w k (by show bz_rg R 5 = nI w; unfold bz_rg; rw [hw]) hR hH hk hs eR eH h
theorem bz_iPop0 (pc' k w : Nat) (R' : List Nat) (h : post (k1, k2, k3, k4, k5, k6, k7, k8, k9, nI pc', k11, k12, k13, k14, k15, k16, k17, k18, a1, a2, a3, a4, a5, a6, a7, a8, a9, a10, a11, a12, a13, a14, a15, a16, a17, bz_mem st ac C H, bz_rg R', a20, a21)) (h1 : 32 ≤ pc := by decide) (h2 : pc + 8 < 2048 := by decide) (hb0 : C.getD (pc - 32) 0 = 88 := by rfl) (hpc : pc + 1 = pc' := by rfl) (hR : R.length = 8 := by rfl) (hk1 : 1 ≤ k := by decide) (hk : k < 18 := by decide) (hs : R.getD 4 0 = 4094 - 2 * k := by rfl) (hw : H.getD k 0 = w := by rfl) (hw' : w < 65536 := by decide) (eR : (R.set 4 (4094 - 2 * (k - 1))).set 0 w = R' := by rfl) : wpX_step post (k1, k2, k3, k4, k5, k6, k7, k8, k9, nI pc, k11, k12, k13, k14, k15, k16, k17, k18, a1, a2, a3, a4, a5, a6, a7, a8, a9, a10, a11, a12, a13, a14, a15, a16, a17, bz_mem st ac C H, bz_rg R, a20, a21) := by
  subst hpc
  unfold wpX_step
  refine bz_next 88 h1 (by omega) hb0 (by decide) ?_
  refine br_f (by decide) ?_
  refine br_t (by decide) ?_
  refine br_f (by decide) ?_
  refine br_f (by decide) ?_
  refine bz_pop_2 w k hR hk1 hk hs hw hw' rfl ?_
  refine ⟨vp_in_iff.mpr (by decide), ?_⟩
  exact nm_r (by show upd (bz_rg _) 0 (nI w) = _; rw [bz_set_rg (by rw [List.length_set]; omega), eR]) h
theorem bz_iPop5 (pc' k w : Nat) (R' : List Nat) (h : post (k1, k2, k3, k4, k5, k6, k7, k8, k9, nI pc', k11, k12, k13, k14, k15, k16, k17, k18, a1, a2, a3, a4, a5, a6, a7, a8, a9, a10, a11, a12, a13, a14, a15, a16, a17, bz_mem st ac C H, bz_rg R', a20, a21)) (h1 : 32 ≤ pc := by decide) (h2 : pc + 8 < 2048 := by decide) (hb0 : C.getD (pc - 32) 0 = 93 := by rfl) (hpc : pc + 1 = pc' := by rfl) (hR : R.length = 8 := by rfl) (hk1 : 1 ≤ k := by decide) (hk : k < 18 := by decide) (hs : R.getD 4 0 = 4094 - 2 * k := by rfl) (hw : H.getD k 0 = w := by rfl) (hw' : w < 65536 := by decide) (eR : (R.set 4 (4094 - 2 * (k - 1))).set 5 w = R' := by rfl) : wpX_step post (k1, k2, k3, k4, k5, k6, k7, k8, k9, nI pc, k11, k12, k13, k14, k15, k16, k17, k18, a1, a2, a3, a4, a5, a6, a7, a8, a9, a10, a11, a12, a13, a14, a15, a16, a17, bz_mem st ac C H, bz_rg R, a20, a21) := by
  subst hpc
  unfold wpX_step
  refine bz_next 93 h1 (by omega) hb0 (by decide) ?_
  refine br_f (by decide) ?_
  refine br_t (by decide) ?_
  refine br_f (by decide) ?_
  refine br_f (by decide) ?_
  refine bz_pop_2 w k hR hk1 hk hs hw hw' rfl ?_
  refine ⟨vp_in_iff.mpr (by decide), ?_⟩
  exact nm_r (by show upd (bz_rg _) 5 (nI w) = _; rw [bz_set_rg (by rw [List.length_set]; omega), eR]) h
theorem bz_iMov0 (pc' lo hi w : Nat) (R' : List Nat) (h : post (k1, k2, k3, k4, k5, k6, k7, k8, k9, nI pc', k11, k12, k13, k14, k15, k16, k17, k18, a1, a2, a3, a4, a5, a6, a7, a8, a9, a10, a11, a12, a13, a14, a15, a16, a17, bz_mem st ac C H, bz_rg R', a20, a21)) (h1 : 32 ≤ pc := by decide) (h2 : pc + 8 < 2048 := by decide) (hb0 : C.getD (pc - 32) 0 = 184 := by rfl) (hb1 : C.getD (pc + 1 - 32) 0 = lo := by rfl) (hb2 : C.getD (pc + 2 - 32) 0 = hi := by rfl) (hpc : pc + 3 = pc' := by rfl) (hl : lo < 256 := by decide) (hh : hi < 256 := by decide) (hw : lo + 256 * hi = w := by rfl) (hR : R.length = 8 := by rfl) (eR : R.set 0 w = R' := by rfl) : wpX_step post (k1, k2, k3, k4, k5, k6, k7, k8, k9, nI pc, k11, k12, k13, k14, k15, k16, k17, k18, a1, a2, a3, a4, a5, a6, a7, a8, a9, a10, a11, a12, a13, a14, a15, a16, a17, bz_mem st ac C H, bz_rg R, a20, a21) := by
  subst hpc
  unfold wpX_step
  refine bz_next 184 h1 (by omega) hb0 (by decide) ?_
  refine br_f (by decide) ?_
  refine br_t (by decide) ?_
  refine br_f (by decide) ?_
  refine br_t (by decide) ?_
  refine br_f (by decide) ?_
  refine br_f (by decide) ?_
  refine bz_nextWord_2 lo hi w (by omega) (by omega) hb1 hb2 hl hh hw ?_
  refine ⟨vp_in_iff.mpr (by decide), ?_⟩
  exact nm_r (by show upd (bz_rg _) 0 (nI w) = _; rw [bz_set_rg (by omega), eR]) h
theorem bz_iMov1 (pc' lo hi w : Nat) (R' : List Nat) (h : post (k1, k2, k3, k4, k5, k6, k7, k8, k9, nI pc', k11, k12, k13, k14, k15, k16, k17, k18, a1, a2, a3, a4, a5, a6, a7, a8, a9, a10, a11, a12, a13, a14, a15, a16, a17, bz_mem st ac C H, bz_rg R', a20, a21)) (h1 : 32 ≤ pc := by decide) (h2 : pc + 8 < 2048 := by decide) (hb0 : C.getD (pc - 32) 0 = 185 := by rfl) (hb1 : C.getD (pc + 1 - 32) 0 = lo := by rfl) (hb2 : C.getD (pc + 2 - 32) 0 = hi := by rfl) (hpc : pc + 3 = pc' := by rfl) (hl : lo < 256 := by decide) (hh : hi < 256 := by decide) (hw : lo + 256 * hi = w := by rfl) (hR : R.length = 8 := by rfl) (eR : R.set 1 w = R' := by rfl) : wpX_step post (k1, k2, k3, k4, k5, k6, k7, k8, k9, nI pc, k11, k12, k13, k14, k15, k16, k17, k18, a1, a2, a3, a4, a5, a6, a7, a8, a9, a10, a11, a12, a13, a14, a15, a16, a17, bz_mem st ac C H, bz_rg R, a20, a21) := by
  subst hpc
  unfold wpX_step
  refine bz_next 185 h1 (by omega) hb0 (by decide) ?_
  refine br_f (by decide) ?_
  refine br_t (by decide) ?_
  refine br_f (by decide) ?_
  refine br_t (by decide) ?_
  refine br_f (by decide) ?_
  refine br_f (by decide) ?_
  refine bz_nextWord_2 lo hi w (by omega) (by omega) hb1 hb2 hl hh hw ?_
  refine ⟨vp_in_iff.mpr (by decide), ?_⟩
  exact nm_r (by show upd (bz_rg _) 1 (nI w) = _; rw [bz_set_rg (by omega), eR]) h
theorem bz_iCall (pc' k w lo hi d : Nat) (R' H' : List Nat) (h : post (k1, k2, k3, k4, k5, k6, k7, k8, k9, nI pc', k11, k12, k13, k14, k15, k16, k17, k18, a1, a2, a3, a4, a5, a6, a7, a8, a9, a10, a11, a12, a13, a14, a15, a16, a17, bz_mem st ac C H', bz_rg R', a20, a21)) (h1 : 32 ≤ pc := by decide) (h2 : pc + 8 < 2048 := by decide) (hb0 : C.getD (pc - 32) 0 = 232 := by rfl) (hb1 : C.getD (pc + 1 - 32) 0 = lo := by rfl) (hb2 : C.getD (pc + 2 - 32) 0 = hi := by rfl) (hw : pc + 3 = w := by rfl) (hl : lo < 256 := by decide) (hh : hi < 256 := by decide) (hd : lo + 256 * hi = d := by rfl) (ht : nI w + (nI d).toInt16.toInt32 = nI pc' := by decide) (hR : R.length = 8 := by rfl) (hH : H.length = 18 := by rfl) (hk : k + 1 < 18 := by decide) (hs : R.getD 4 0 = 4094 - 2 * k := by rfl) (eR : R.set 4 (4094 - 2 * (k + 1)) = R' := by rfl) (eH : H.set (k + 1) w = H' := by rfl) : wpX_step post (k1, k2, k3, k4, k5, k6, k7, k8, k9, nI pc, k11, k12, k13, k14, k15, k16, k17, k18, a1, a2, a3, a4, a5, a6, a7, a8, a9, a10, a11, a12, a13, a14, a15, a16, a17, bz_mem st ac C H, bz_rg R, a20, a21) := by
  subst hw
  unfold wpX_step
  refine bz_next 232 h1 (by omega) hb0 (by decide) ?_
  refine br_f (by decide) ?_
  refine br_t (by decide) ?_
  refine br_f (by decide) ?_
  refine br_t (by decide) ?_
  refine br_f (by decide) ?_
  refine br_t (by decide) ?_
  refine br_t (by decide) ?_
  unfold wX_step_106
  refine bz_nextWord lo hi d (by omega) (by omega) hb1 hb2 hl hh hd ?_
  refine br_t (by decide) ?_
  refine bz_push (pc + 3) k rfl hR hH hk hs eR eH ?_
  exact nm_r ht h
theorem bz_iJmp (pc' lo hi d w : Nat) (h : post (k1, k2, k3, k4, k5, k6, k7, k8, k9, nI pc', k11, k12, k13, k14, k15, k16, k17, k18, a1, a2, a3, a4, a5, a6, a7, a8, a9, a10, a11, a12, a13, a14, a15, a16, a17, bz_mem st ac C H, bz_rg R, a20, a21)) (h1 : 32 ≤ pc := by decide) (h2 : pc + 8 < 2048 := by decide) (hb0 : C.getD (pc - 32) 0 = 233 := by rfl) (hb1 : C.getD (pc + 1 - 32) 0 = lo := by rfl) (hb2 : C.getD (pc + 2 - 32) 0 = hi := by rfl) (hw : pc + 3 = w := by rfl) (hl : lo < 256 := by decide) (hh : hi < 256 := by decide) (hd : lo + 256 * hi = d := by rfl) (ht : nI w + (nI d).toInt16.toInt32 = nI pc' := by decide) : wpX_step post (k1, k2, k3, k4, k5, k6, k7, k8, k9, nI pc, k11, k12, k13, k14, k15, k16, k17, k18, a1, a2, a3, a4, a5, a6, a7, a8, a9, a10, a11, a12, a13, a14, a15, a16, a17, bz_mem st ac C H, bz_rg R, a20, a21) := by
  subst hw
  unfold wpX_step
  refine bz_next 233 h1 (by omega) hb0 (by decide) ?_
  refine br_f (by decide) ?_
  refine br_t (by decide) ?_
  refine br_f (by decide) ?_
  refine br_t (by decide) ?_
  refine br_f (by decide) ?_
  refine br_t (by decide) ?_
  refine br_f (by decide) ?_
  refine br_t (by decide) ?_
  unfold wX_step_106
  refine bz_nextWord lo hi d (by omega) (by omega) hb1 hb2 hl hh hd ?_
  refine br_f (by decide) ?_
  exact nm_r ht h
theorem bz_iRet (k w : Nat) (R' : List Nat) (h : post (k1, k2, k3, k4, k5, k6, k7, k8, k9, nI w, k11, k12, k13, k14, k15, k16, k17, k18, a1, a2, a3, a4, a5, a6, a7, a8, a9, a10, a11, a12, a13, a14, a15, a16, a17, bz_mem st ac C H, bz_rg R', a20, a21)) (h1 : 32 ≤ pc := by decide) (h2 : pc + 8 < 2048 := by decide) (hb0 : C.getD (pc - 32) 0 = 195 := by rfl) (hR : R.length = 8 := by rfl) (hk1 : 1 ≤ k := by decide) (hk : k < 18 := by decide) (hs : R.getD 4 0 = 4094 - 2 * k := by rfl) (hw : H.getD k 0 = w := by rfl) (hw' : w < 65536 := by decide) (eR : R.set 4 (4094 - 2 * (k - 1)) = R' := by rfl) : wpX_step post (k1, k2, k3, k4, k5, k6, k7, k8, k9, nI pc, k11, k12, k13, k14, k15, k16, k17, k18, a1, a2, a3, a4, a5, a6, a7, a8, a9, a10, a11, a12, a13, a14, a15, a16, a17, bz_mem st ac C H, bz_rg R, a20, a21) := by
  unfold wpX_step
  refine bz_next 195 h1 (by omega) hb0 (by decide) ?_
  refine br_f (by decide) ?_
  refine br_t (by decide) ?_
  refine br_f (by decide) ?_
  refine br_t (by decide) ?_
  refine br_f (by decide) ?_
  refine br_t (by decide) ?_
  refine br_f (by decide) ?_
  refine br_f (by decide) ?_
  refine br_t (by decide) ?_
  exact bz_pop w k hR hk1 hk hs hw hw' eR h
theorem bz_iRetn (k w lo hi m s : Nat) (R' : List Nat) (h : post (k1, k2, k3, k4, k5, k6, k7, k8, k9, nI w, k11, k12, k13, k14, k15, k16, k17, k18, a1, a2, a3, a4, a5, a6, a7, a8, a9, a10, a11, a12, a13, a14, a15, a16, a17, bz_mem st ac C H, bz_rg R', a20, a21)) (h1 : 32 ≤ pc := by decide) (h2 : pc + 8 < 2048 := by decide) (hb0 : C.getD (pc - 32) 0 = 194 := by rfl) (hb1 : C.getD (pc + 1 - 32) 0 = lo := by rfl) (hb2 : C.getD (pc + 2 - 32) 0 = hi := by rfl) (hl : lo < 256 := by decide) (hh : hi < 256 := by decide) (hm : lo + 256 * hi = m := by rfl) (hR : R.length = 8 := by rfl) (hk1 : 1 ≤ k := by decide) (hk : k < 18 := by decide) (hs : R.getD 4 0 = 4094 - 2 * k := by rfl) (hw : H.getD k 0 = w := by rfl) (hw' : w < 65536 := by decide) (hs2 : 4094 - 2 * (k - 1) + m = s := by rfl) (hs3 : s < 65536 := by decide) (eR : R.set 4 s = R' := by rfl) : wpX_step post (k1, k2, k3, k4, k5, k6, k7, k8, k9, nI pc, k11, k12, k13, k14, k15, k16, k17, k18, a1, a2, a3, a4, a5, a6, a7, a8, a9, a10, a11, a12, a13, a14, a15, a16, a17, bz_mem st ac C H, bz_rg R, a20, a21) := by
  unfold wpX_step
  refine bz_next 194 h1 (by omega) hb0 (by decide) ?_
  refine br_f (by decide) ?_
  refine br_t (by decide) ?_
  refine br_f (by decide) ?_
  refine br_t (by decide) ?_
  refine br_f (by decide) ?_
  refine br_t (by decide) ?_
  refine br_f (by decide) ?_
  refine br_f (by decide) ?_
  refine br_f (by decide) ?_
  refine br_t (by decide) ?_
  refine bz_nextWord lo hi m (by omega) (by omega) hb1 hb2 hl hh hm ?_
  refine bz_pop w k hR hk1 hk hs hw hw' rfl ?_
  refine nm_r ?_ h
  have e : bz_rg (R.set 4 (4094 - 2 * (k - 1))) 4 = nI (4094 - 2 * (k - 1)) := by unfold bz_rg; rw [bz_gs (by omega), if_pos rfl]
  rw [e, nI_add, hs2, bz_am hs3, bz_set_rg (by rw [List.length_set]; omega), List.set_set, eR]
theorem bz_iInt (pc' : Nat) (h : post (k1, k2, k3, k4, k5, k6, k7, k8, k9, nI pc', k11, k12, 1, k14, k15, k16, k17, k18, a1, a2, a3, a4, a5, a6, a7, a8, a9, a10, a11, a12, a13, a14, a15, a16, a17, bz_mem st ac C H, bz_rg R, a20, a21)) (h1 : 32 ≤ pc := by decide) (h2 : pc + 8 < 2048 := by decide) (hb0 : C.getD (pc - 32) 0 = 205 := by rfl) (hb1 : C.getD (pc + 1 - 32) 0 = 0 := by rfl) (hpc : pc + 2 = pc' := by rfl) : wpX_step post (k1, k2, k3, k4, k5, k6, k7, k8, k9, nI pc, k11, k12, k13, k14, k15, k16, k17, k18, a1, a2, a3, a4, a5, a6, a7, a8, a9, a10, a11, a12, a13, a14, a15, a16, a17, bz_mem st ac C H, bz_rg R, a20, a21) := by
  subst hpc
  unfold wpX_step
  refine bz_next 205 h1 (by omega) hb0 (by decide) ?_
  refine br_f (by decide) ?_
  refine br_t (by decide) ?_
  refine br_f (by decide) ?_
  refine br_t (by decide) ?_
  refine br_f (by decide) ?_
  refine br_t (by decide) ?_
  refine br_f (by decide) ?_
  refine br_f (by decide) ?_
  refine br_f (by decide) ?_
  refine br_f (by decide) ?_
  refine br_t (by decide) ?_
  refine bz_next 0 (by omega) (by omega) hb1 (by decide) ?_
  exact br_t rfl h
theorem bz_iJl (pc' d w : Nat) (h : post (k1, k2, k3, k4, k5, k6, k7, k8, k9, nI pc', k11, 1, k13, k14, k15, k16, k17, k18, a1, a2, a3, a4, a5, a6, a7, a8, a9, a10, a11, a12, a13, a14, a15, a16, a17, bz_mem st ac C H, bz_rg R, a20, a21)) (h1 : 32 ≤ pc := by decide) (h2 : pc + 8 < 2048 := by decide) (hb0 : C.getD (pc - 32) 0 = 124 := by rfl) (hb1 : C.getD (pc + 1 - 32) 0 = d := by rfl) (hw : pc + 2 = w := by rfl) (hd : d < 256 := by decide) (ht : nI w + (nI d).toInt8.toInt32 = nI pc' := by decide) : wpX_step post (k1, k2, k3, k4, k5, k6, k7, k8, k9, nI pc, k11, 1, k13, k14, k15, k16, k17, k18, a1, a2, a3, a4, a5, a6, a7, a8, a9, a10, a11, a12, a13, a14, a15, a16, a17, bz_mem st ac C H, bz_rg R, a20, a21) := by
  subst hw
  unfold wpX_step
  refine bz_next 124 h1 (by omega) hb0 (by decide) ?_
  refine br_f (by decide) ?_
  refine br_t (by decide) ?_
  refine br_f (by decide) ?_
  refine br_t (by decide) ?_
  refine br_t (by decide) ?_
  refine br_f (by decide) ?_
  refine br_f (by decide) ?_
  refine br_f (by decide) ?_
  refine br_f (by decide) ?_
  refine br_f (by decide) ?_
  refine br_t (by decide) ?_
  unfold wX_step_237 wpX_branch
  refine bz_next d (by omega) (by omega) hb1 hd ?_
  refine br_t (by decide) ?_
  refine br_f (by decide) ?_
  exact nm_r ht h
theorem bz_iJnz (pc' d w : Nat) (h : post (k1, k2, k3, k4, k5, k6, k7, k8, k9, nI pc', 0, k12, k13, k14, k15, k16, k17, k18, a1, a2, a3, a4, a5, a6, a7, a8, a9, a10, a11, a12, a13, a14, a15, a16, a17, bz_mem st ac C H, bz_rg R, a20, a21)) (h1 : 32 ≤ pc := by decide) (h2 : pc + 8 < 2048 := by decide) (hb0 : C.getD (pc - 32) 0 = 117 := by rfl) (hb1 : C.getD (pc + 1 - 32) 0 = d := by rfl) (hw : pc + 2 = w := by rfl) (hd : d < 256 := by decide) (ht : nI w + (nI d).toInt8.toInt32 = nI pc' := by decide) : wpX_step post (k1, k2, k3, k4, k5, k6, k7, k8, k9, nI pc, 0, k12, k13, k14, k15, k16, k17, k18, a1, a2, a3, a4, a5, a6, a7, a8, a9, a10, a11, a12, a13, a14, a15, a16, a17, bz_mem st ac C H, bz_rg R, a20, a21) := by
  subst hw
  unfold wpX_step
  refine bz_next 117 h1 (by omega) hb0 (by decide) ?_
  refine br_f (by decide) ?_
  refine br_t (by decide) ?_
  refine br_f (by decide) ?_
  refine br_t (by decide) ?_
  refine br_t (by decide) ?_
  refine br_f (by decide) ?_
  refine br_f (by decide) ?_
  refine br_f (by decide) ?_
  refine br_f (by decide) ?_
  refine br_f (by decide) ?_
  refine br_f (by decide) ?_
  refine br_f (by decide) ?_
  refine br_t (by decide) ?_
  unfold wX_step_237 wpX_branch
  refine bz_next d (by omega) (by omega) hb1 hd ?_
  refine br_f (by decide) ?_
  refine br_f (by decide) ?_
  refine br_t rfl ?_
  refine br_f (by decide) ?_
  exact nm_r ht h
theorem bz_iLdC (pc' lo hi p lq hq w : Nat) (R' : List Nat) (h : post (k1, k2, k3, k4, k5, k6, k7, k8, k9, nI pc', k11, k12, k13, nI p, 0, nI 6, k17, k18, a1, a2, a3, a4, a5, a6, a7, a8, a9, a10, a11, a12, a13, a14, a15, a16, a17, bz_mem st ac C H, bz_rg R', a20, a21)) (h1 : 32 ≤ pc := by decide) (h2 : pc + 8 < 2048 := by decide) (hb0 : C.getD (pc - 32) 0 = 139 := by rfl) (hb1 : C.getD (pc + 1 - 32) 0 = 54 := by rfl) (hb2 : C.getD (pc + 2 - 32) 0 = lo := by rfl) (hb3 : C.getD (pc + 3 - 32) 0 = hi := by rfl) (hpc : pc + 4 = pc' := by rfl) (hl : lo < 256 := by decide) (hh : hi < 256 := by decide) (hp : lo + 256 * hi = p := by rfl) (hp1 : 32 ≤ p := by decide) (hp2 : p + 1 < 2048 := by decide) (hx : C.getD (p - 32) 0 = lq := by rfl) (hy : C.getD (p + 1 - 32) 0 = hq := by rfl) (hx' : lq < 256 := by decide) (hy' : hq < 256 := by decide) (hw : lq + 256 * hq = w := by rfl) (hR : R.length = 8 := by rfl) (eR : R.set 6 w = R' := by rfl) : wpX_step post (k1, k2, k3, k4, k5, k6, k7, k8, k9, nI pc, k11, k12, k13, k14, k15, k16, k17, k18, a1, a2, a3, a4, a5, a6, a7, a8, a9, a10, a11, a12, a13, a14, a15, a16, a17, bz_mem st ac C H, bz_rg R, a20, a21) := by
  subst hpc
  unfold wpX_step
  refine bz_next 139 h1 (by omega) hb0 (by decide) ?_
  refine br_f (by decide) ?_
  refine br_t (by decide) ?_
  refine br_f (by decide) ?_
  refine br_t (by decide) ?_
  refine br_t (by decide) ?_
  refine br_f (by decide) ?_
  refine br_f (by decide) ?_
  refine br_f (by decide) ?_
  refine br_f (by decide) ?_
  refine br_f (by decide) ?_
  refine br_f (by decide) ?_
  refine br_f (by decide) ?_
  refine br_f (by decide) ?_
  unfold wpX_stepWithPlace
  refine bz_dec06 54 6 lo hi p (by omega) (by omega) hb1 (by decide) (by decide) (by decide) (by decide) hb2 hb3 hl hh hp ?_
  refine br_t (by decide) ?_
  refine bz_op0 p w (by omega) (bz_wC hp1 hp2 hx hy hx' hy' hw) ?_
  refine ⟨vp_in_iff.mpr (by decide), ?_⟩
  exact nm_r (by show upd (bz_rg _) 6 (nI w) = _; rw [bz_set_rg (by omega), eR]) h
theorem bz_iMovBpSp (pc' w : Nat) (R' : List Nat) (h : post (k1, k2, k3, k4, k5, k6, k7, k8, k9, nI pc', k11, k12, k13, nI 4, 1, nI 5, k17, k18, a1, a2, a3, a4, a5, a6, a7, a8, a9, a10, a11, a12, a13, a14, a15, a16, a17, bz_mem st ac C H, bz_rg R', a20, a21)) (h1 : 32 ≤ pc := by decide) (h2 : pc + 8 < 2048 := by decide) (hb0 : C.getD (pc - 32) 0 = 139 := by rfl) (hb1 : C.getD (pc + 1 - 32) 0 = 236 := by rfl) (hpc : pc + 2 = pc' := by rfl) (hw : R.getD 4 0 = w := by rfl) (hR : R.length = 8 := by rfl) (eR : R.set 5 w = R' := by rfl) : wpX_step post (k1, k2, k3, k4, k5, k6, k7, k8, k9, nI pc, k11, k12, k13, k14, k15, k16, k17, k18, a1, a2, a3, a4, a5, a6, a7, a8, a9, a10, a11, a12, a13, a14, a15, a16, a17, bz_mem st ac C H, bz_rg R, a20, a21) := by
  subst hpc
  unfold wpX_step
  refine bz_next 139 h1 (by omega) hb0 (by decide) ?_
  refine br_f (by decide) ?_
  refine br_t (by decide) ?_
  refine br_f (by decide) ?_
  refine br_t (by decide) ?_
  refine br_t (by decide) ?_
  refine br_f (by decide) ?_
  refine br_f (by decide) ?_
  refine br_f (by decide) ?_
  refine br_f (by decide) ?_
  refine br_f (by decide) ?_
  refine br_f (by decide) ?_
  refine br_f (by decide) ?_
  refine br_f (by decide) ?_
  unfold wpX_stepWithPlace
  refine bz_dec3 236 5 4 (by omega) (by omega) hb1 (by decide) (by decide) (by decide) (by decide) ?_
  refine br_t (by decide) ?_
  refine bz_opR 4 w (by decide) hw ?_
  refine ⟨vp_in_iff.mpr (by decide), ?_⟩
  exact nm_r (by show upd (bz_rg _) 5 (nI w) = _; rw [bz_set_rg (by omega), eR]) h
theorem bz_iMovSpBp (pc' w : Nat) (R' : List Nat) (h : post (k1, k2, k3, k4, k5, k6, k7, k8, k9, nI pc', k11, k12, k13, nI 5, 1, nI 4, k17, k18, a1, a2, a3, a4, a5, a6, a7, a8, a9, a10, a11, a12, a13, a14, a15, a16, a17, bz_mem st ac C H, bz_rg R', a20, a21)) (h1 : 32 ≤ pc := by decide) (h2 : pc + 8 < 2048 := by decide) (hb0 : C.getD (pc - 32) 0 = 139 := by rfl) (hb1 : C.getD (pc + 1 - 32) 0 = 229 := by rfl) (hpc : pc + 2 = pc' := by rfl) (hw : R.getD 5 0 = w := by rfl) (hR : R.length = 8 := by rfl) (eR : R.set 4 w = R' := by rfl) : wpX_step post (k1, k2, k3, k4, k5, k6, k7, k8, k9, nI pc, k11, k12, k13, k14, k15, k16, k17, k18, a1, a2, a3, a4, a5, a6, a7, a8, a9, a10, a11, a12, a13, a14, a15, a16, a17, bz_mem st ac C H, bz_rg R, a20, a21) := by
  subst hpc
  unfold wpX_step
  refine bz_next 139 h1 (by omega) hb0 (by decide) ?_
  refine br_f (by decide) ?_
  refine br_t (by decide) ?_
  refine br_f (by decide) ?_
  refine br_t (by decide) ?_
  refine br_t (by decide) ?_
  refine br_f (by decide) ?_
  refine br_f (by decide) ?_
  refine br_f (by decide) ?_
  refine br_f (by decide) ?_
  refine br_f (by decide) ?_
  refine br_f (by decide) ?_
  refine br_f (by decide) ?_
  refine br_f (by decide) ?_
  unfold wpX_stepWithPlace
  refine bz_dec3 229 4 5 (by omega) (by omega) hb1 (by decide) (by decide) (by decide) (by decide) ?_
  refine br_t (by decide) ?_
  refine bz_opR 5 w (by decide) hw ?_
  refine ⟨vp_in_iff.mpr (by decide), ?_⟩
  exact nm_r (by show upd (bz_rg _) 4 (nI w) = _; rw [bz_set_rg (by omega), eR]) h
theorem bz_iLd0 (pc' d bp j k w : Nat) (R' : List Nat) (h : post (k1, k2, k3, k4, k5, k6, k7, k8, k9, nI pc', k11, k12, k13, nI j, 0, nI 0, k17, k18, a1, a2, a3, a4, a5, a6, a7, a8, a9, a10, a11, a12, a13, a14, a15, a16, a17, bz_mem st ac C H, bz_rg R', a20, a21)) (h1 : 32 ≤ pc := by decide) (h2 : pc + 8 < 2048 := by decide) (hb0 : C.getD (pc - 32) 0 = 139 := by rfl) (hb1 : C.getD (pc + 1 - 32) 0 = 70 := by rfl) (hb2 : C.getD (pc + 2 - 32) 0 = d := by rfl) (hpc : pc + 3 = pc' := by rfl) (hd : d < 256 := by decide) (hbp : R.getD 5 0 = bp := by rfl) (hj : (nI bp + (nI d).toInt8.toInt32) &&& 65535 = nI j := by decide) (hjk : 4094 - 2 * k = j := by rfl) (hk : k < 18 := by decide) (hw : H.getD k 0 = w := by rfl) (hw' : w < 65536 := by decide) (hR : R.length = 8 := by rfl) (eR : R.set 0 w = R' := by rfl) : wpX_step post (k1, k2, k3, k4, k5, k6, k7, k8, k9, nI pc, k11, k12, k13, k14, k15, k16, k17, k18, a1, a2, a3, a4, a5, a6, a7, a8, a9, a10, a11, a12, a13, a14, a15, a16, a17, bz_mem st ac C H, bz_rg R, a20, a21) := by
  subst hpc
  unfold wpX_step
  refine bz_next 139 h1 (by omega) hb0 (by decide) ?_
  refine br_f (by decide) ?_
  refine br_t (by decide) ?_
  refine br_f (by decide) ?_
  refine br_t (by decide) ?_
  refine br_t (by decide) ?_
  refine br_f (by decide) ?_
  refine br_f (by decide) ?_
  refine br_f (by decide) ?_
  refine br_f (by decide) ?_
  refine br_f (by decide) ?_
  refine br_f (by decide) ?_
  refine br_f (by decide) ?_
  refine br_f (by decide) ?_
  unfold wpX_stepWithPlace
  refine bz_dec16 70 0 d bp j (by omega) (by omega) hb1 (by decide) (by decide) (by decide) (by decide) hb2 hd hbp hj ?_
  refine br_t (by decide) ?_
  subst hjk
  refine bz_op0 (4094 - 2 * k) w (by omega) (bz_wH (by omega) hw hw') ?_
  refine ⟨vp_in_iff.mpr (by decide), ?_⟩
  exact nm_r (by show upd (bz_rg _) 0 (nI w) = _; rw [bz_set_rg (by omega), eR]) h
theorem bz_iLd6 (pc' d bp j k w : Nat) (R' : List Nat) (h : post (k1, k2, k3, k4, k5, k6, k7, k8, k9, nI pc', k11, k12, k13, nI j, 0, nI 6, k17, k18, a1, a2, a3, a4, a5, a6, a7, a8, a9, a10, a11, a12, a13, a14, a15, a16, a17, bz_mem st ac C H, bz_rg R', a20, a21)) (h1 : 32 ≤ pc := by decide) (h2 : pc + 8 < 2048 := by decide) (hb0 : C.getD (pc - 32) 0 = 139 := by rfl) (hb1 : C.getD (pc + 1 - 32) 0 = 118 := by rfl) (hb2 : C.getD (pc + 2 - 32) 0 = d := by rfl) (hpc : pc + 3 = pc' := by rfl) (hd : d < 256 := by decide) (hbp : R.getD 5 0 = bp := by rfl) (hj : (nI bp + (nI d).toInt8.toInt32) &&& 65535 = nI j := by decide) (hjk : 4094 - 2 * k = j := by rfl) (hk : k < 18 := by decide) (hw : H.getD k 0 = w := by rfl) (hw' : w < 65536 := by decide) (hR : R.length = 8 := by rfl) (eR : R.set 6 w = R' := by rfl) : wpX_step post (k1, k2, k3, k4, k5, k6, k7, k8, k9, nI pc, k11, k12, k13, k14, k15, k16, k17, k18, a1, a2, a3, a4, a5, a6, a7, a8, a9, a10, a11, a12, a13, a14, a15, a16, a17, bz_mem st ac C H, bz_rg R, a20, a21) := by
  subst hpc
  unfold wpX_step
  refine bz_next 139 h1 (by omega) hb0 (by decide) ?_
  refine br_f (by decide) ?_
  refine br_t (by decide) ?_
  refine br_f (by decide) ?_
  refine br_t (by decide) ?_
  refine br_t (by decide) ?_
  refine br_f (by decide) ?_
  refine br_f (by decide) ?_
  refine br_f (by decide) ?_
  refine br_f (by decide) ?_
  refine br_f (by decide) ?_
  refine br_f (by decide) ?_
  refine br_f (by decide) ?_
  refine br_f (by decide) ?_
  unfold wpX_stepWithPlace
  refine bz_dec16 118 6 d bp j (by omega) (by omega) hb1 (by decide) (by decide) (by decide) (by decide) hb2 hd hbp hj ?_
  refine br_t (by decide) ?_
  subst hjk
  refine bz_op0 (4094 - 2 * k) w (by omega) (bz_wH (by omega) hw hw') ?_
  refine ⟨vp_in_iff.mpr (by decide), ?_⟩
  exact nm_r (by show upd (bz_rg _) 6 (nI w) = _; rw [bz_set_rg (by omega), eR]) h
theorem bz_iLd5 (pc' d bp j k w : Nat) (R' : List Nat) (h : post (k1, k2, k3, k4, k5, k6, k7, k8, k9, nI pc', k11, k12, k13, nI j, 0, nI 5, k17, k18, a1, a2, a3, a4, a5, a6, a7, a8, a9, a10, a11, a12, a13, a14, a15, a16, a17, bz_mem st ac C H, bz_rg R', a20, a21)) (h1 : 32 ≤ pc := by decide) (h2 : pc + 8 < 2048 := by decide) (hb0 : C.getD (pc - 32) 0 = 139 := by rfl) (hb1 : C.getD (pc + 1 - 32) 0 = 110 := by rfl) (hb2 : C.getD (pc + 2 - 32) 0 = d := by rfl) (hpc : pc + 3 = pc' := by rfl) (hd : d < 256 := by decide) (hbp : R.getD 5 0 = bp := by rfl) (hj : (nI bp + (nI d).toInt8.toInt32) &&& 65535 = nI j := by decide) (hjk : 4094 - 2 * k = j := by rfl) (hk : k < 18 := by decide) (hw : H.getD k 0 = w := by rfl) (hw' : w < 65536 := by decide) (hR : R.length = 8 := by rfl) (eR : R.set 5 w = R' := by rfl) : wpX_step post (k1, k2, k3, k4, k5, k6, k7, k8, k9, nI pc, k11, k12, k13, k14, k15, k16, k17, k18, a1, a2, a3, a4, a5, a6, a7, a8, a9, a10, a11, a12, a13, a14, a15, a16, a17, bz_mem st ac C H, bz_rg R, a20, a21) := by
  subst hpc
  unfold wpX_step
  refine bz_next 139 h1 (by omega) hb0 (by decide) ?_
  refine br_f (by decide) ?_
  refine br_t (by decide) ?_
  refine br_f (by decide) ?_
  refine br_t (by decide) ?_
  refine br_t (by decide) ?_
  refine br_f (by decide) ?_
  refine br_f (by decide) ?_
  refine br_f (by decide) ?_
  refine br_f (by decide) ?_
  refine br_f (by decide) ?_
  refine br_f (by decide) ?_
  refine br_f (by decide) ?_
  refine br_f (by decide) ?_
  unfold wpX_stepWithPlace
  refine bz_dec16 110 5 d bp j (by omega) (by omega) hb1 (by decide) (by decide) (by decide) (by decide) hb2 hd hbp hj ?_
  refine br_t (by decide) ?_
  subst hjk
  refine bz_op0 (4094 - 2 * k) w (by omega) (bz_wH (by omega) hw hw') ?_
  refine ⟨vp_in_iff.mpr (by decide), ?_⟩
  exact nm_r (by show upd (bz_rg _) 5 (nI w) = _; rw [bz_set_rg (by omega), eR]) h
theorem bz_iStBx (pc' j k w : Nat) (H' : List Nat) (h : post (k1, k2, k3, k4, k5, k6, k7, k8, k9, nI pc', k11, k12, k13, nI j, 0, nI 0, k17, k18, a1, a2, a3, a4, a5, a6, a7, a8, a9, a10, a11, a12, a13, a14, a15, a16, a17, bz_mem st ac C H', bz_rg R, a20, a21)) (h1 : 32 ≤ pc := by decide) (h2 : pc + 8 < 2048 := by decide) (hb0 : C.getD (pc - 32) 0 = 137 := by rfl) (hb1 : C.getD (pc + 1 - 32) 0 = 7 := by rfl) (hpc : pc + 2 = pc' := by rfl) (hj : R.getD 3 0 = j := by rfl) (hjk : 4094 - 2 * k = j := by rfl) (hk1 : 1 ≤ k := by decide) (hk : k < 18 := by decide) (hw : R.getD 0 0 = w := by rfl) (hH : H.length = 18 := by rfl) (eH : H.set k w = H' := by rfl) : wpX_step post (k1, k2, k3, k4, k5, k6, k7, k8, k9, nI pc, k11, k12, k13, k14, k15, k16, k17, k18, a1, a2, a3, a4, a5, a6, a7, a8, a9, a10, a11, a12, a13, a14, a15, a16, a17, bz_mem st ac C H, bz_rg R, a20, a21) := by
  subst hpc
  unfold wpX_step
  refine bz_next 137 h1 (by omega) hb0 (by decide) ?_
  refine br_f (by decide) ?_
  refine br_t (by decide) ?_
  refine br_f (by decide) ?_
  refine br_t (by decide) ?_
  refine br_t (by decide) ?_
  refine br_f (by decide) ?_
  refine br_f (by decide) ?_
  refine br_f (by decide) ?_
  refine br_f (by decide) ?_
  refine br_f (by decide) ?_
  refine br_f (by decide) ?_
  refine br_f (by decide) ?_
  refine br_f (by decide) ?_
  unfold wpX_stepWithPlace
  refine bz_dec07 7 0 j (by omega) (by omega) hb1 (by decide) (by decide) (by decide) (by decide) hj ?_
  refine br_f (by decide) ?_
  refine br_t (by decide) ?_
  refine ⟨vp_in_iff.mpr (by decide), ?_⟩
  subst hjk
  refine bz_so0 (4094 - 2 * k) (by omega) ?_ h
  show upd (upd _ _ (nI (R.getD 0 0)).toInt8.toInt32) _ ((nI (R.getD 0 0) >>> ((8 : Int32) &&& 31)).toInt8.toInt32) = _
  rw [hw, ← eH]
  exact bz_set_H hk1 (by omega) (by omega) w
theorem bz_iStBp (pc' d bp j k w : Nat) (H' : List Nat) (h : post (k1, k2, k3, k4, k5, k6, k7, k8, k9, nI pc', k11, k12, k13, nI j, 0, nI 0, k17, k18, a1, a2, a3, a4, a5, a6, a7, a8, a9, a10, a11, a12, a13, a14, a15, a16, a17, bz_mem st ac C H', bz_rg R, a20, a21)) (h1 : 32 ≤ pc := by decide) (h2 : pc + 8 < 2048 := by decide) (hb0 : C.getD (pc - 32) 0 = 137 := by rfl) (hb1 : C.getD (pc + 1 - 32) 0 = 70 := by rfl) (hb2 : C.getD (pc + 2 - 32) 0 = d := by rfl) (hpc : pc + 3 = pc' := by rfl) (hd : d < 256 := by decide) (hbp : R.getD 5 0 = bp := by rfl) (hj : (nI bp + (nI d).toInt8.toInt32) &&& 65535 = nI j := by decide) (hjk : 4094 - 2 * k = j := by rfl) (hk1 : 1 ≤ k := by decide) (hk : k < 18 := by decide) (hw : R.getD 0 0 = w := by rfl) (hH : H.length = 18 := by rfl) (eH : H.set k w = H' := by rfl) : wpX_step post (k1, k2, k3, k4, k5, k6, k7, k8, k9, nI pc, k11, k12, k13, k14, k15, k16, k17, k18, a1, a2, a3, a4, a5, a6, a7, a8, a9, a10, a11, a12, a13, a14, a15, a16, a17, bz_mem st ac C H, bz_rg R, a20, a21) := by
  subst hpc
  unfold wpX_step
  refine bz_next 137 h1 (by omega) hb0 (by decide) ?_
  refine br_f (by decide) ?_
  refine br_t (by decide) ?_
  refine br_f (by decide) ?_
  refine br_t (by decide) ?_
  refine br_t (by decide) ?_
  refine br_f (by decide) ?_
  refine br_f (by decide) ?_
  refine br_f (by decide) ?_
  refine br_f (by decide) ?_
  refine br_f (by decide) ?_
  refine br_f (by decide) ?_
  refine br_f (by decide) ?_
  refine br_f (by decide) ?_
  unfold wpX_stepWithPlace
  refine bz_dec16 70 0 d bp j (by omega) (by omega) hb1 (by decide) (by decide) (by decide) (by decide) hb2 hd hbp hj ?_
  refine br_f (by decide) ?_
  refine br_t (by decide) ?_
  refine ⟨vp_in_iff.mpr (by decide), ?_⟩
  subst hjk
  refine bz_so0 (4094 - 2 * k) (by omega) ?_ h
  show upd (upd _ _ (nI (R.getD 0 0)).toInt8.toInt32) _ ((nI (R.getD 0 0) >>> ((8 : Int32) &&& 31)).toInt8.toInt32) = _
  rw [hw, ← eH]
  exact bz_set_H hk1 (by omega) (by omega) w
theorem bz_iLea (pc' d bp j : Nat) (R' : List Nat) (h : post (k1, k2, k3, k4, k5, k6, k7, k8, k9, nI pc', k11, k12, k13, nI j, 0, nI 3, k17, k18, a1, a2, a3, a4, a5, a6, a7, a8, a9, a10, a11, a12, a13, a14, a15, a16, a17, bz_mem st ac C H, bz_rg R', a20, a21)) (h1 : 32 ≤ pc := by decide) (h2 : pc + 8 < 2048 := by decide) (hb0 : C.getD (pc - 32) 0 = 141 := by rfl) (hb1 : C.getD (pc + 1 - 32) 0 = 94 := by rfl) (hb2 : C.getD (pc + 2 - 32) 0 = d := by rfl) (hpc : pc + 3 = pc' := by rfl) (hd : d < 256 := by decide) (hbp : R.getD 5 0 = bp := by rfl) (hj : (nI bp + (nI d).toInt8.toInt32) &&& 65535 = nI j := by decide) (hR : R.length = 8 := by rfl) (eR : R.set 3 j = R' := by rfl) : wpX_step post (k1, k2, k3, k4, k5, k6, k7, k8, k9, nI pc, k11, k12, k13, k14, k15, k16, k17, k18, a1, a2, a3, a4, a5, a6, a7, a8, a9, a10, a11, a12, a13, a14, a15, a16, a17, bz_mem st ac C H, bz_rg R, a20, a21) := by
  subst hpc
  unfold wpX_step
  refine bz_next 141 h1 (by omega) hb0 (by decide) ?_
  refine br_f (by decide) ?_
  refine br_t (by decide) ?_
  refine br_f (by decide) ?_
  refine br_t (by decide) ?_
  refine br_t (by decide) ?_
  refine br_f (by decide) ?_
  refine br_f (by decide) ?_
  refine br_f (by decide) ?_
  refine br_f (by decide) ?_
  refine br_f (by decide) ?_
  refine br_f (by decide) ?_
  refine br_f (by decide) ?_
  refine br_f (by decide) ?_
  unfold wpX_stepWithPlace
  refine bz_dec16 94 3 d bp j (by omega) (by omega) hb1 (by decide) (by decide) (by decide) (by decide) hb2 hd hbp hj ?_
  refine br_f (by decide) ?_
  refine br_f (by decide) ?_
  refine br_t (by decide) ?_
  refine ⟨vp_in_iff.mpr (by decide), ?_⟩
  exact nm_r (by show upd (bz_rg _) 3 (nI j) = _; rw [bz_set_rg (by omega), eR]) h
theorem bz_iCmpSt (pc' : Nat) (h : post (k1, k2, k3, k4, k5, k6, k7, k8, k9, nI pc', 0, 1, k13, nI 2, 0, nI 7, k17, k18, a1, a2, a3, a4, a5, a6, a7, a8, a9, a10, a11, a12, a13, a14, a15, a16, a17, bz_mem st ac C H, bz_rg R, a20, a21)) (h1 : 32 ≤ pc := by decide) (h2 : pc + 8 < 2048 := by decide) (hb0 : C.getD (pc - 32) 0 = 129 := by rfl) (hb1 : C.getD (pc + 1 - 32) 0 = 62 := by rfl) (hb2 : C.getD (pc + 2 - 32) 0 = 2 := by rfl) (hb3 : C.getD (pc + 3 - 32) 0 = 0 := by rfl) (hb4 : C.getD (pc + 4 - 32) 0 = 244 := by rfl) (hb5 : C.getD (pc + 5 - 32) 0 = 1 := by rfl) (hpc : pc + 6 = pc' := by rfl) (hst : st < 500 := by decide) : wpX_step post (k1, k2, k3, k4, k5, k6, k7, k8, k9, nI pc, k11, k12, k13, k14, k15, k16, k17, k18, a1, a2, a3, a4, a5, a6, a7, a8, a9, a10, a11, a12, a13, a14, a15, a16, a17, bz_mem st ac C H, bz_rg R, a20, a21) := by
  subst hpc
  unfold wpX_step
  refine bz_next 129 h1 (by omega) hb0 (by decide) ?_
  refine br_f (by decide) ?_
  refine br_t (by decide) ?_
  refine br_f (by decide) ?_
  refine br_t (by decide) ?_
  refine br_t (by decide) ?_
  refine br_f (by decide) ?_
  refine br_f (by decide) ?_
  refine br_f (by decide) ?_
  refine br_f (by decide) ?_
  refine br_f (by decide) ?_
  refine br_f (by decide) ?_
  refine br_f (by decide) ?_
  refine br_f (by decide) ?_
  unfold wpX_stepWithPlace
  refine bz_dec06 62 7 2 0 2 (by omega) (by omega) hb1 (by decide) (by decide) (by decide) (by decide) hb2 hb3 (by decide) (by decide) rfl ?_
  refine br_f (by decide) ?_
  refine br_f (by decide) ?_
  refine br_f (by decide) ?_
  refine br_t (by decide) ?_
  refine bz_nextWord 244 1 500 (by omega) (by omega) hb4 hb5 (by decide) (by decide) rfl ?_
  refine bz_op0 2 st (by omega) (bz_wst (by omega)) ?_
  exact bz_cmp 0 1 ((bz_c500 st hst).1) ((bz_c500 st hst).2) h
theorem bz_iCmpAc (pc' : Nat) (h : post (k1, k2, k3, k4, k5, k6, k7, k8, k9, nI pc', 0, 1, k13, nI 4, 0, nI 7, k17, k18, a1, a2, a3, a4, a5, a6, a7, a8, a9, a10, a11, a12, a13, a14, a15, a16, a17, bz_mem st ac C H, bz_rg R, a20, a21)) (h1 : 32 ≤ pc := by decide) (h2 : pc + 8 < 2048 := by decide) (hb0 : C.getD (pc - 32) 0 = 131 := by rfl) (hb1 : C.getD (pc + 1 - 32) 0 = 62 := by rfl) (hb2 : C.getD (pc + 2 - 32) 0 = 4 := by rfl) (hb3 : C.getD (pc + 3 - 32) 0 = 0 := by rfl) (hb4 : C.getD (pc + 4 - 32) 0 = 12 := by rfl) (hpc : pc + 5 = pc' := by rfl) (hac : ac < 12 := by decide) : wpX_step post (k1, k2, k3, k4, k5, k6, k7, k8, k9, nI pc, k11, k12, k13, k14, k15, k16, k17, k18, a1, a2, a3, a4, a5, a6, a7, a8, a9, a10, a11, a12, a13, a14, a15, a16, a17, bz_mem st ac C H, bz_rg R, a20, a21) := by
  subst hpc
  unfold wpX_step
  refine bz_next 131 h1 (by omega) hb0 (by decide) ?_
  refine br_f (by decide) ?_
  refine br_t (by decide) ?_
  refine br_f (by decide) ?_
  refine br_t (by decide) ?_
  refine br_t (by decide) ?_
  refine br_f (by decide) ?_
  refine br_f (by decide) ?_
  refine br_f (by decide) ?_
  refine br_f (by decide) ?_
  refine br_f (by decide) ?_
  refine br_f (by decide) ?_
  refine br_f (by decide) ?_
  refine br_f (by decide) ?_
  unfold wpX_stepWithPlace
  refine bz_dec06 62 7 4 0 4 (by omega) (by omega) hb1 (by decide) (by decide) (by decide) (by decide) hb2 hb3 (by decide) (by decide) rfl ?_
  refine br_f (by decide) ?_
  refine br_f (by decide) ?_
  refine br_f (by decide) ?_
  refine br_f (by decide) ?_
  refine br_t (by decide) ?_
  unfold wpX_withByte
  refine bz_next 12 (by omega) (by omega) hb4 (by decide) ?_
  refine bz_op0 4 ac (by omega) (bz_wac (by omega)) ?_
  refine br_t (by decide) ?_
  exact bz_cmp 0 1 ((bz_c12 ac hac).1) ((bz_c12 ac hac).2) h
theorem bz_iCallSi (pc' k w : Nat) (R' H' : List Nat) (h : post (k1, k2, k3, k4, k5, k6, k7, k8, k9, nI pc', k11, k12, k13, nI 6, 1, nI 2, k17, k18, a1, a2, a3, a4, a5, a6, a7, a8, a9, a10, a11, a12, a13, a14, a15, a16, a17, bz_mem st ac C H', bz_rg R', a20, a21)) (h1 : 32 ≤ pc := by decide) (h2 : pc + 8 < 2048 := by decide) (hb0 : C.getD (pc - 32) 0 = 255 := by rfl) (hb1 : C.getD (pc + 1 - 32) 0 = 214 := by rfl) (hw : pc + 2 = w := by rfl) (hx : R.getD 6 0 = pc' := by rfl) (hR : R.length = 8 := by rfl) (hH : H.length = 18 := by rfl) (hk : k + 1 < 18 := by decide) (hs : R.getD 4 0 = 4094 - 2 * k := by rfl) (eR : R.set 4 (4094 - 2 * (k + 1)) = R' := by rfl) (eH : H.set (k + 1) w = H' := by rfl) : wpX_step post (k1, k2, k3, k4, k5, k6, k7, k8, k9, nI pc, k11, k12, k13, k14, k15, k16, k17, k18, a1, a2, a3, a4, a5, a6, a7, a8, a9, a10, a11, a12, a13, a14, a15, a16, a17, bz_mem st ac C H, bz_rg R, a20, a21) := by
  subst hw
  unfold wpX_step
  refine bz_next 255 h1 (by omega) hb0 (by decide) ?_
  refine br_f (by decide) ?_
  refine br_t (by decide) ?_
  refine br_f (by decide) ?_
  refine br_t (by decide) ?_
  refine br_f (by decide) ?_
  refine br_t (by decide) ?_
  refine br_f (by decide) ?_
  refine br_f (by decide) ?_
  refine br_f (by decide) ?_
  refine br_f (by decide) ?_
  refine br_f (by decide) ?_
  refine br_f (by decide) ?_
  refine br_f (by decide) ?_
  refine br_f (by decide) ?_
  unfold wpX_stepWithPlace
  refine bz_dec3 214 2 6 (by omega) (by omega) hb1 (by decide) (by decide) (by decide) (by decide) ?_
  refine br_f (by decide) ?_
  refine br_f (by decide) ?_
  refine br_f (by decide) ?_
  refine br_f (by decide) ?_
  refine br_f (by decide) ?_
  refine br_t (by decide) ?_
  unfold wpX_countOrCall
  refine bz_opR 6 pc' (by decide) hx ?_
  refine br_t (by decide) ?_
  exact bz_push (pc + 2) k rfl hR hH hk hs eR eH h
theorem bz_iIncSt (pc' x : Nat) (h : post (k1, k2, k3, k4, k5, k6, k7, k8, k9, nI pc', k11, k12, k13, nI 2, 0, nI 0, k17, k18, a1, a2, a3, a4, a5, a6, a7, a8, a9, a10, a11, a12, a13, a14, a15, a16, a17, bz_mem x ac C H, bz_rg R, a20, a21)) (h1 : 32 ≤ pc := by decide) (h2 : pc + 8 < 2048 := by decide) (hb0 : C.getD (pc - 32) 0 = 255 := by rfl) (hb1 : C.getD (pc + 1 - 32) 0 = 6 := by rfl) (hb2 : C.getD (pc + 2 - 32) 0 = 2 := by rfl) (hb3 : C.getD (pc + 3 - 32) 0 = 0 := by rfl) (hpc : pc + 4 = pc' := by rfl) (hb : st < 65536 := by decide) (hx : st + 1 = x := by rfl) : wpX_step post (k1, k2, k3, k4, k5, k6, k7, k8, k9, nI pc, k11, k12, k13, k14, k15, k16, k17, k18, a1, a2, a3, a4, a5, a6, a7, a8, a9, a10, a11, a12, a13, a14, a15, a16, a17, bz_mem st ac C H, bz_rg R, a20, a21) := by
  subst hpc hx
  unfold wpX_step
  refine bz_next 255 h1 (by omega) hb0 (by decide) ?_
  refine br_f (by decide) ?_
  refine br_t (by decide) ?_
  refine br_f (by decide) ?_
  refine br_t (by decide) ?_
  refine br_f (by decide) ?_
  refine br_t (by decide) ?_
  refine br_f (by decide) ?_
  refine br_f (by decide) ?_
  refine br_f (by decide) ?_
  refine br_f (by decide) ?_
  refine br_f (by decide) ?_
  refine br_f (by decide) ?_
  refine br_f (by decide) ?_
  refine br_f (by decide) ?_
  unfold wpX_stepWithPlace
  refine bz_dec06 6 0 2 0 2 (by omega) (by omega) hb1 (by decide) (by decide) (by decide) (by decide) hb2 hb3 (by decide) (by decide) rfl ?_
  refine br_f (by decide) ?_
  refine br_f (by decide) ?_
  refine br_f (by decide) ?_
  refine br_f (by decide) ?_
  refine br_f (by decide) ?_
  refine br_t (by decide) ?_
  unfold wpX_countOrCall
  refine bz_op0 2 _ (by omega) (bz_wst (by omega)) ?_
  refine br_f (by decide) ?_
  refine br_t (by decide) ?_
  unfold wX_countOrCall_46
  refine bz_so0 2 (by omega) ?_ h
  rw [nI_1]
  exact bz_set_st _
theorem bz_iIncAc (pc' x : Nat) (h : post (k1, k2, k3, k4, k5, k6, k7, k8, k9, nI pc', k11, k12, k13, nI 4, 0, nI 0, k17, k18, a1, a2, a3, a4, a5, a6, a7, a8, a9, a10, a11, a12, a13, a14, a15, a16, a17, bz_mem st x C H, bz_rg R, a20, a21)) (h1 : 32 ≤ pc := by decide) (h2 : pc + 8 < 2048 := by decide) (hb0 : C.getD (pc - 32) 0 = 255 := by rfl) (hb1 : C.getD (pc + 1 - 32) 0 = 6 := by rfl) (hb2 : C.getD (pc + 2 - 32) 0 = 4 := by rfl) (hb3 : C.getD (pc + 3 - 32) 0 = 0 := by rfl) (hpc : pc + 4 = pc' := by rfl) (hb : ac < 65536 := by decide) (hx : ac + 1 = x := by rfl) : wpX_step post (k1, k2, k3, k4, k5, k6, k7, k8, k9, nI pc, k11, k12, k13, k14, k15, k16, k17, k18, a1, a2, a3, a4, a5, a6, a7, a8, a9, a10, a11, a12, a13, a14, a15, a16, a17, bz_mem st ac C H, bz_rg R, a20, a21) := by
  subst hpc hx
  unfold wpX_step
  refine bz_next 255 h1 (by omega) hb0 (by decide) ?_
  refine br_f (by decide) ?_
  refine br_t (by decide) ?_
  refine br_f (by decide) ?_
  refine br_t (by decide) ?_
  refine br_f (by decide) ?_
  refine br_t (by decide) ?_
  refine br_f (by decide) ?_
  refine br_f (by decide) ?_
  refine br_f (by decide) ?_
  refine br_f (by decide) ?_
  refine br_f (by decide) ?_
  refine br_f (by decide) ?_
  refine br_f (by decide) ?_
  refine br_f (by decide) ?_
  unfold wpX_stepWithPlace
  refine bz_dec06 6 0 4 0 4 (by omega) (by omega) hb1 (by decide) (by decide) (by decide) (by decide) hb2 hb3 (by decide) (by decide) rfl ?_
  refine br_f (by decide) ?_
  refine br_f (by decide) ?_
  refine br_f (by decide) ?_
  refine br_f (by decide) ?_
  refine br_f (by decide) ?_
  refine br_t (by decide) ?_
  unfold wpX_countOrCall
  refine bz_op0 4 _ (by omega) (bz_wac (by omega)) ?_
  refine br_f (by decide) ?_
  refine br_t (by decide) ?_
  unfold wX_countOrCall_46
  refine bz_so0 4 (by omega) ?_ h
  rw [nI_1]
  exact bz_set_ac _
theorem bz_iDecAc (pc' x : Nat) (h : post (k1, k2, k3, k4, k5, k6, k7, k8, k9, nI pc', k11, k12, k13, nI 4, 0, nI 1, k17, k18, a1, a2, a3, a4, a5, a6, a7, a8, a9, a10, a11, a12, a13, a14, a15, a16, a17, bz_mem st x C H, bz_rg R, a20, a21)) (h1 : 32 ≤ pc := by decide) (h2 : pc + 8 < 2048 := by decide) (hb0 : C.getD (pc - 32) 0 = 255 := by rfl) (hb1 : C.getD (pc + 1 - 32) 0 = 14 := by rfl) (hb2 : C.getD (pc + 2 - 32) 0 = 4 := by rfl) (hb3 : C.getD (pc + 3 - 32) 0 = 0 := by rfl) (hpc : pc + 4 = pc' := by rfl) (hb : ac < 65536 := by decide) (hz : 1 ≤ ac := by decide) (hx : ac - 1 = x := by rfl) : wpX_step post (k1, k2, k3, k4, k5, k6, k7, k8, k9, nI pc, k11, k12, k13, k14, k15, k16, k17, k18, a1, a2, a3, a4, a5, a6, a7, a8, a9, a10, a11, a12, a13, a14, a15, a16, a17, bz_mem st ac C H, bz_rg R, a20, a21) := by
  subst hpc hx
  obtain ⟨y, rfl⟩ : ∃ y, ac = y + 1 := ⟨ac - 1, by omega⟩
  unfold wpX_step
  refine bz_next 255 h1 (by omega) hb0 (by decide) ?_
  refine br_f (by decide) ?_
  refine br_t (by decide) ?_
  refine br_f (by decide) ?_
  refine br_t (by decide) ?_
  refine br_f (by decide) ?_
  refine br_t (by decide) ?_
  refine br_f (by decide) ?_
  refine br_f (by decide) ?_
  refine br_f (by decide) ?_
  refine br_f (by decide) ?_
  refine br_f (by decide) ?_
  refine br_f (by decide) ?_
  refine br_f (by decide) ?_
  refine br_f (by decide) ?_
  unfold wpX_stepWithPlace
  refine bz_dec06 14 1 4 0 4 (by omega) (by omega) hb1 (by decide) (by decide) (by decide) (by decide) hb2 hb3 (by decide) (by decide) rfl ?_
  refine br_f (by decide) ?_
  refine br_f (by decide) ?_
  refine br_f (by decide) ?_
  refine br_f (by decide) ?_
  refine br_f (by decide) ?_
  refine br_t (by decide) ?_
  unfold wpX_countOrCall
  refine bz_op0 4 _ (by omega) (bz_wac (by omega)) ?_
  refine br_f (by decide) ?_
  refine br_f (by decide) ?_
  unfold wX_countOrCall_46
  refine bz_so0 4 (by omega) ?_ h
  rw [nI_pred]
  exact bz_set_ac _
theorem bz_iXor (pc' x r : Nat) (z : Int32) (R' : List Nat) (h : post (k1, k2, k3, k4, k5, k6, k7, k8, k9, nI pc', z, 0, k13, nI 0, 1, nI 0, k17, k18, a1, a2, a3, a4, a5, a6, a7, a8, a9, a10, a11, a12, a13, a14, a15, a16, a17, bz_mem st ac C H, bz_rg R', a20, a21)) (h1 : 32 ≤ pc := by decide) (h2 : pc + 8 < 2048 := by decide) (hb0 : C.getD (pc - 32) 0 = 51 := by rfl) (hb1 : C.getD (pc + 1 - 32) 0 = 192 := by rfl) (hpc : pc + 2 = pc' := by rfl) (hx : R.getD 0 0 = x := by rfl) (hr : nI x ^^^ nI x = nI r := by decide) (hr' : r < 65536 := by decide) (hz : z = if (nI r &&& 65535) = ((0 : Int32) &&& 65535) then 1 else 0 := by decide) (hl : (0 : Int32) = if (0 : Int32).toInt16.toInt32 ≤ (nI r).toInt16.toInt32 then 0 else 1 := by decide) (hR : R.length = 8 := by rfl) (eR : R.set 0 r = R' := by rfl) : wpX_step post (k1, k2, k3, k4, k5, k6, k7, k8, k9, nI pc, k11, k12, k13, k14, k15, k16, k17, k18, a1, a2, a3, a4, a5, a6, a7, a8, a9, a10, a11, a12, a13, a14, a15, a16, a17, bz_mem st ac C H, bz_rg R, a20, a21) := by
  subst hpc
  unfold wpX_step
  refine bz_next 51 h1 (by omega) hb0 (by decide) ?_
  refine br_t (by decide) ?_
  refine br_t (by decide) ?_
  refine br_t (by decide) ?_
  refine br_f (by decide) ?_
  refine br_f (by decide) ?_
  refine br_f (by decide) ?_
  refine br_f (by decide) ?_
  refine br_f (by decide) ?_
  refine br_f (by decide) ?_
  refine br_f (by decide) ?_
  refine br_f (by decide) ?_
  unfold wpX_stepWithPlace
  refine bz_dec3 192 0 0 (by omega) (by omega) hb1 (by decide) (by decide) (by decide) (by decide) ?_
  refine br_f (by decide) ?_
  refine br_f (by decide) ?_
  refine br_f (by decide) ?_
  refine br_f (by decide) ?_
  refine br_f (by decide) ?_
  refine br_f (by decide) ?_
  refine br_f (by decide) ?_
  refine bz_opR 0 x (by decide) hx ?_
  unfold wpX_calculate
  refine ⟨vp_in_iff.mpr (by decide), ?_⟩
  refine nm_r (e' := nI x) (by show bz_rg R 0 = _; unfold bz_rg; rw [hx]) ?_
  refine br_f (by decide) ?_
  refine br_f (by decide) ?_
  refine br_f (by decide) ?_
  refine br_f (by decide) ?_
  rw [hr]
  unfold wX_calculate_61
  refine ⟨vp_in_iff.mpr (by decide), ?_⟩
  refine nm_r (by show upd (bz_rg _) 0 (nI r &&& 65535) = _; rw [bz_am hr', bz_set_rg (by omega), eR]) ?_
  exact bz_cmp z 0 hz hl h
theorem bz_iOr (pc' x r : Nat) (z : Int32) (R' : List Nat) (h : post (k1, k2, k3, k4, k5, k6, k7, k8, k9, nI pc', z, 0, k13, nI 1, 1, nI 1, k17, k18, a1, a2, a3, a4, a5, a6, a7, a8, a9, a10, a11, a12, a13, a14, a15, a16, a17, bz_mem st ac C H, bz_rg R', a20, a21)) (h1 : 32 ≤ pc := by decide) (h2 : pc + 8 < 2048 := by decide) (hb0 : C.getD (pc - 32) 0 = 11 := by rfl) (hb1 : C.getD (pc + 1 - 32) 0 = 201 := by rfl) (hpc : pc + 2 = pc' := by rfl) (hx : R.getD 1 0 = x := by rfl) (hr : nI x ||| nI x = nI r := by decide) (hr' : r < 65536 := by decide) (hz : z = if (nI r &&& 65535) = ((0 : Int32) &&& 65535) then 1 else 0 := by decide) (hl : (0 : Int32) = if (0 : Int32).toInt16.toInt32 ≤ (nI r).toInt16.toInt32 then 0 else 1 := by decide) (hR : R.length = 8 := by rfl) (eR : R.set 1 r = R' := by rfl) : wpX_step post (k1, k2, k3, k4, k5, k6, k7, k8, k9, nI pc, k11, k12, k13, k14, k15, k16, k17, k18, a1, a2, a3, a4, a5, a6, a7, a8, a9, a10, a11, a12, a13, a14, a15, a16, a17, bz_mem st ac C H, bz_rg R, a20, a21) := by
  subst hpc
  unfold wpX_step
  refine bz_next 11 h1 (by omega) hb0 (by decide) ?_
  refine br_t (by decide) ?_
  refine br_t (by decide) ?_
  refine br_t (by decide) ?_
  refine br_f (by decide) ?_
  refine br_f (by decide) ?_
  refine br_f (by decide) ?_
  refine br_f (by decide) ?_
  refine br_f (by decide) ?_
  refine br_f (by decide) ?_
  refine br_f (by decide) ?_
  refine br_f (by decide) ?_
  unfold wpX_stepWithPlace
  refine bz_dec3 201 1 1 (by omega) (by omega) hb1 (by decide) (by decide) (by decide) (by decide) ?_
  refine br_f (by decide) ?_
  refine br_f (by decide) ?_
  refine br_f (by decide) ?_
  refine br_f (by decide) ?_
  refine br_f (by decide) ?_
  refine br_f (by decide) ?_
  refine br_f (by decide) ?_
  refine bz_opR 1 x (by decide) hx ?_
  unfold wpX_calculate
  refine ⟨vp_in_iff.mpr (by decide), ?_⟩
  refine nm_r (e' := nI x) (by show bz_rg R 1 = _; unfold bz_rg; rw [hx]) ?_
  refine br_f (by decide) ?_
  refine br_f (by decide) ?_
  refine br_f (by decide) ?_
  refine br_t (by decide) ?_
  rw [hr]
  unfold wX_calculate_61
  refine ⟨vp_in_iff.mpr (by decide), ?_⟩
  refine nm_r (by show upd (bz_rg _) 1 (nI r &&& 65535) = _; rw [bz_am hr', bz_set_rg (by omega), eR]) ?_
  exact bz_cmp z 0 hz hl h
theorem bz_run {n : Nat} (h : wpX_step (fun u => match u with | (y1, y2, y3, y4, y5, y6, y7, y8, y9, y10, y11, y12, y13, y14, y15, y16, y17, y18, y19, y20, y21, y22, y23, y24, y25, y26, y27, y28, y29, y30, y31, y32, y33, y34, y35, y36, y37, y38, y39) => wX_run_90 po2 n y1 y2 y3 y4 y5 y6 y7 y8 y9 y10 y11 y12 y13 y14 y15 y16 y17 y18 y19 y20 y21 y22 y23 y24 y25 y26 y27 y28 y29 y30 y31 y32 y33 y34 y35 y36 y37 y38 y39) (k1, k2, k3, k4, k5, k6, k7, k8, k9, k10, k11, k12, 0, k14, k15, k16, k17, k18, a1, a2, a3, a4, a5, a6, a7, a8, a9, a10, a11, a12, a13, a14, a15, a16, a17, a18, a19, a20, a21)) : wX_run_90 po2 (n + 1) k1 k2 k3 k4 k5 k6 k7 k8 k9 k10 k11 k12 0 k14 k15 k16 k17 k18 a1 a2 a3 a4 a5 a6 a7 a8 a9 a10 a11 a12 a13 a14 a15 a16 a17 a18 a19 a20 a21 := br_t rfl h
end
end
section
section
variable {post : St2 → Prop} {po2 : Int32 → St2 → Prop} {po1 : Int32 → Prop} {k1 k2 k3 k4 k5 k6 k7 k8 k9 k10 k11 k12 k13 k14 k15 k16 k17 k18 : Int32} {a1 a2 a3 a4 a5 a6 a7 a8 a9 a10 a11 a12 a13 a14 a15 a16 a17 a18 a19 a20 a21 : Nat → Int32} {st ac n : Nat} {C H : List Nat}
theorem bz_put {x : Int32} (n' b : Nat) (hn : 32 + C.length = n) (h : 32 + (C ++ [b]).length = n' → post (k1, k2, k3, k4, nI n', k6, k7, k8, k9, k10, k11, k12, k13, k14, k15, k16, k17, k18, a1, a2, a3, a4, a5, a6, a7, a8, a9, a10, a11, a12, a13, a14, a15, a16, a17, bz_mem st ac (C ++ [b]) H, a19, a20, a21)) (hx : x.toInt8.toInt32 = bz_b b := by decide) (hl : n < 2000 := by decide) (hn' : n + 1 = n' := by rfl) : wpX_put post (k1, k2, k3, k4, nI n, k6, k7, k8, k9, k10, k11, k12, k13, k14, k15, k16, k17, k18, a1, a2, a3, a4, a5, a6, a7, a8, a9, a10, a11, a12, a13, a14, a15, a16, a17, bz_mem st ac C H, a19, a20, a21) x := by
  subst hn' hn
  unfold wpX_put
  refine ⟨vp_in_nI (by omega) (by decide), ?_⟩
  refine nm_r (by rw [nI_clamp (by omega), hx, bz_app (by omega)]) ?_
  exact nm_r (nI_1 _) (h (by simp; omega))
theorem bz_put2 {x y : Int32} (n' b c : Nat) (hn : 32 + C.length = n) (h : 32 + (C ++ [b, c]).length = n' → post (k1, k2, k3, k4, nI n', k6, k7, k8, k9, k10, k11, k12, k13, k14, k15, k16, k17, k18, a1, a2, a3, a4, a5, a6, a7, a8, a9, a10, a11, a12, a13, a14, a15, a16, a17, bz_mem st ac (C ++ [b, c]) H, a19, a20, a21)) (hx : x.toInt8.toInt32 = bz_b b := by decide) (hy : y.toInt8.toInt32 = bz_b c := by decide) (hl : n < 1990 := by decide) (hn' : n + 2 = n' := by rfl) : wpX_put2 post (k1, k2, k3, k4, nI n, k6, k7, k8, k9, k10, k11, k12, k13, k14, k15, k16, k17, k18, a1, a2, a3, a4, a5, a6, a7, a8, a9, a10, a11, a12, a13, a14, a15, a16, a17, bz_mem st ac C H, a19, a20, a21) x y := by
  subst hn'
  unfold wpX_put2
  refine bz_put (n + 1) b hn (fun h1 => ?_) hx (by omega) rfl
  refine bz_put (n + 2) c h1 (fun h2 => ?_) hy (by omega) rfl
  have e : (C ++ [b]) ++ [c] = C ++ [b, c] := by simp
  have h' := h (by rw [← e]; exact h2)
  rw [← e] at h'
  exact h'
theorem bz_put3 {x y z : Int32} (n' b c d : Nat) (hn : 32 + C.length = n) (h : 32 + (C ++ [b, c, d]).length = n' → post (k1, k2, k3, k4, nI n', k6, k7, k8, k9, k10, k11, k12, k13, k14, k15, k16, k17, k18, a1, a2, a3, a4, a5, a6, a7, a8, a9, a10, a11, a12, a13, a14, a15, a16, a17, bz_mem st ac (C ++ [b, c, d]) H, a19, a20, a21)) (hx : x.toInt8.toInt32 = bz_b b := by decide) (hy : y.toInt8.toInt32 = bz_b c := by decide) (hz : z.toInt8.toInt32 = bz_b d := by decide) (hl : n < 1990 := by decide) (hn' : n + 3 = n' := by rfl) : wpX_put3 post (k1, k2, k3, k4, nI n, k6, k7, k8, k9, k10, k11, k12, k13, k14, k15, k16, k17, k18, a1, a2, a3, a4, a5, a6, a7, a8, a9, a10, a11, a12, a13, a14, a15, a16, a17, bz_mem st ac C H, a19, a20, a21) x y z := by
  subst hn'
  unfold wpX_put3
  refine bz_put (n + 1) b hn (fun h1 => ?_) hx (by omega) rfl
  refine bz_put (n + 2) c h1 (fun h2 => ?_) hy (by omega) rfl
  refine bz_put (n + 3) d h2 (fun h3 => ?_) hz (by omega) rfl
  have e : ((C ++ [b]) ++ [c]) ++ [d] = C ++ [b, c, d] := by simp
  have h' := h (by rw [← e]; exact h3)
  rw [← e] at h'
  exact h'
theorem bz_putWord {x : Int32} (n' b c : Nat) (hn : 32 + C.length = n) (h : 32 + (C ++ [b, c]).length = n' → post (k1, k2, k3, k4, nI n', k6, k7, k8, k9, k10, k11, k12, k13, k14, k15, k16, k17, k18, a1, a2, a3, a4, a5, a6, a7, a8, a9, a10, a11, a12, a13, a14, a15, a16, a17, bz_mem st ac (C ++ [b, c]) H, a19, a20, a21)) (hx : (x &&& 255).toInt8.toInt32 = bz_b b := by decide) (hy : ((x >>> ((8 : Int32) &&& 31)) &&& 255).toInt8.toInt32 = bz_b c := by decide) (hl : n < 1990 := by decide) (hn' : n + 2 = n' := by rfl) : wpX_putWord post (k1, k2, k3, k4, nI n, k6, k7, k8, k9, k10, k11, k12, k13, k14, k15, k16, k17, k18, a1, a2, a3, a4, a5, a6, a7, a8, a9, a10, a11, a12, a13, a14, a15, a16, a17, bz_mem st ac C H, a19, a20, a21) x := by
  subst hn'
  unfold wpX_putWord
  refine bz_put (n + 1) b hn (fun h1 => ?_) hx (by omega) rfl
  refine bz_put (n + 2) c h1 (fun h2 => ?_) hy (by omega) rfl
  have e : (C ++ [b]) ++ [c] = C ++ [b, c] := by simp
  have h' := h (by rw [← e]; exact h2)
  rw [← e] at h'
  exact h'
theorem bz_load {r x : Int32} (n' a b c : Nat) (hn : 32 + C.length = n) (h : 32 + (C ++ [a, b, c]).length = n' → post (k1, k2, k3, k4, nI n', k6, k7, k8, k9, k10, k11, k12, k13, k14, k15, k16, k17, k18, a1, a2, a3, a4, a5, a6, a7, a8, a9, a10, a11, a12, a13, a14, a15, a16, a17, bz_mem st ac (C ++ [a, b, c]) H, a19, a20, a21)) (hr : (184 + r).toInt8.toInt32 = bz_b a := by decide) (hx : (x &&& 255).toInt8.toInt32 = bz_b b := by decide) (hy : ((x >>> ((8 : Int32) &&& 31)) &&& 255).toInt8.toInt32 = bz_b c := by decide) (hl : n < 1980 := by decide) (hn' : n + 3 = n' := by rfl) : wpX_loadNumber post (k1, k2, k3, k4, nI n, k6, k7, k8, k9, k10, k11, k12, k13, k14, k15, k16, k17, k18, a1, a2, a3, a4, a5, a6, a7, a8, a9, a10, a11, a12, a13, a14, a15, a16, a17, bz_mem st ac C H, a19, a20, a21) r x := by
  subst hn'
  unfold wpX_loadNumber
  refine bz_put (n + 1) a hn (fun h1 => ?_) hr (by omega) rfl
  refine bz_putWord (n + 3) b c h1 (fun h2 => ?_) hx hy (by omega) rfl
  have e : (C ++ [a]) ++ [b, c] = C ++ [a, b, c] := by simp
  have h' := h (by rw [← e]; exact h2)
  rw [← e] at h'
  exact h'
theorem bz_stop {x : Int32} (n' b c : Nat) (hn : 32 + C.length = n) (h : 32 + (C ++ [184, b, c, 205, 0]).length = n' → post (k1, k2, k3, k4, nI n', k6, k7, k8, k9, k10, k11, k12, k13, k14, k15, k16, k17, k18, a1, a2, a3, a4, a5, a6, a7, a8, a9, a10, a11, a12, a13, a14, a15, a16, a17, bz_mem st ac (C ++ [184, b, c, 205, 0]) H, a19, a20, a21)) (hx : (x &&& 255).toInt8.toInt32 = bz_b b := by decide) (hy : ((x >>> ((8 : Int32) &&& 31)) &&& 255).toInt8.toInt32 = bz_b c := by decide) (hl : n < 1970 := by decide) (hn' : n + 5 = n' := by rfl) : wpX_stop post (k1, k2, k3, k4, nI n, k6, k7, k8, k9, k10, k11, k12, k13, k14, k15, k16, k17, k18, a1, a2, a3, a4, a5, a6, a7, a8, a9, a10, a11, a12, a13, a14, a15, a16, a17, bz_mem st ac C H, a19, a20, a21) x := by
  subst hn'
  unfold wpX_stop
  refine bz_load (n + 3) 184 b c hn (fun h1 => ?_) (by decide) hx hy (by omega) rfl
  refine bz_put2 (n + 5) 205 0 h1 (fun h2 => ?_) (by decide) (by decide) (by omega) rfl
  have e : (C ++ [184, b, c]) ++ [205, 0] = C ++ [184, b, c, 205, 0] := by simp
  have h' := h (by rw [← e]; exact h2)
  rw [← e] at h'
  exact h'
theorem bz_callTo {p : Int32} (n' b c : Nat) (hn : 32 + C.length = n) (h : 32 + (C ++ [232, b, c]).length = n' → post (k1, k2, k3, k4, nI n', k6, k7, k8, k9, k10, k11, k12, k13, k14, k15, k16, k17, k18, a1, a2, a3, a4, a5, a6, a7, a8, a9, a10, a11, a12, a13, a14, a15, a16, a17, bz_mem st ac (C ++ [232, b, c]) H, a19, a20, a21)) (hx : ((p - nI (n + 1) - 2) &&& 255).toInt8.toInt32 = bz_b b := by decide) (hy : (((p - nI (n + 1) - 2) >>> ((8 : Int32) &&& 31)) &&& 255).toInt8.toInt32 = bz_b c := by decide) (hl : n < 1980 := by decide) (hn' : n + 3 = n' := by rfl) : wpX_callTo post (k1, k2, k3, k4, nI n, k6, k7, k8, k9, k10, k11, k12, k13, k14, k15, k16, k17, k18, a1, a2, a3, a4, a5, a6, a7, a8, a9, a10, a11, a12, a13, a14, a15, a16, a17, bz_mem st ac C H, a19, a20, a21) p := by
  subst hn'
  unfold wpX_callTo
  refine bz_put (n + 1) 232 hn (fun h1 => ?_) (by decide) (by omega) rfl
  refine bz_putWord (n + 3) b c h1 (fun h2 => ?_) hx hy (by omega) rfl
  have e : (C ++ [232]) ++ [b, c] = C ++ [232, b, c] := by simp
  have h' := h (by rw [← e]; exact h2)
  rw [← e] at h'
  exact h'
theorem bz_jumpF (n' : Nat) (hn : 32 + C.length = n) (h : 32 + (C ++ [233, 0, 0]).length = n' → po2 (nI n' - 2) (k1, k2, k3, k4, nI n', k6, k7, k8, k9, k10, k11, k12, k13, k14, k15, k16, k17, k18, a1, a2, a3, a4, a5, a6, a7, a8, a9, a10, a11, a12, a13, a14, a15, a16, a17, bz_mem st ac (C ++ [233, 0, 0]) H, a19, a20, a21)) (hl : n < 1980 := by decide) (hn' : n + 3 = n' := by rfl) : wpX_jumpForward po2 (k1, k2, k3, k4, nI n, k6, k7, k8, k9, k10, k11, k12, k13, k14, k15, k16, k17, k18, a1, a2, a3, a4, a5, a6, a7, a8, a9, a10, a11, a12, a13, a14, a15, a16, a17, bz_mem st ac C H, a19, a20, a21) := by
  subst hn'
  unfold wpX_jumpForward
  refine bz_put (n + 1) 233 hn (fun h1 => ?_) (by decide) (by omega) rfl
  refine bz_putWord (n + 3) 0 0 h1 (fun h2 => ?_) (by decide) (by decide) (by omega) rfl
  have e : (C ++ [233]) ++ [0, 0] = C ++ [233, 0, 0] := by simp
  have h' := h (by rw [← e]; exact h2)
  rw [← e] at h'
  exact h'
theorem bz_setWC {p x : Int32} (i b c : Nat) (hn : 32 + C.length = n) (h : 32 + ((C.set i b).set (i + 1) c).length = n → post (k1, k2, k3, k4, k5, k6, k7, k8, k9, k10, k11, k12, k13, k14, k15, k16, k17, k18, a1, a2, a3, a4, a5, a6, a7, a8, a9, a10, a11, a12, a13, a14, a15, a16, a17, bz_mem st ac ((C.set i b).set (i + 1) c) H, a19, a20, a21)) (hp : p = nI (32 + i) := by decide) (hx : x.toInt8.toInt32 = bz_b b := by decide) (hy : (x >>> ((8 : Int32) &&& 31)).toInt8.toInt32 = bz_b c := by decide) (hl : n < 1980 := by decide) (hi : 32 + i + 1 < n := by decide) : wpX_setWord post (k1, k2, k3, k4, k5, k6, k7, k8, k9, k10, k11, k12, k13, k14, k15, k16, k17, k18, a1, a2, a3, a4, a5, a6, a7, a8, a9, a10, a11, a12, a13, a14, a15, a16, a17, bz_mem st ac C H, a19, a20, a21) p x := by
  refine bz_setWord (32 + i) hp (by omega) ?_ (h (by rw [List.length_set, List.length_set]; exact hn))
  rw [hx, hy, bz_set_C (by omega) (by omega), Nat.add_assoc 32 i 1, bz_set_C (by rw [List.length_set]; omega) (by rw [List.length_set]; omega)]
theorem bz_enterState {x : Int32} (s : Int32) (h : post (k1, k2, k3, k4, k5, k6, k7, 1, k9, k10, k11, k12, k13, k14, k15, k16, k17, k18, a1, a2, a3, a4, a5, a6, a7, a8, a9, a10, a11, a12, upd a13 0 s, upd a14 0 0, a15, a16, a17, a18, a19, a20, a21)) (hs : x.toInt8.toInt32 = s := by decide) : wpX_enterState post (k1, k2, k3, k4, k5, k6, k7, 0, k9, k10, k11, k12, k13, k14, k15, k16, k17, k18, a1, a2, a3, a4, a5, a6, a7, a8, a9, a10, a11, a12, a13, a14, a15, a16, a17, a18, a19, a20, a21) x := by
  subst hs
  unfold wpX_enterState
  refine ⟨vp_in_iff.mpr (by decide), ?_⟩
  refine nm_e ⟨vp_in_iff.mpr (by decide), ?_⟩
  exact nm_e (nm_r (by decide) h)
theorem bz_enterExpr {x : Int32} (s : Int32) (h : post (k1, k2, k3, k4, k5, k6, k7, k8, 1, k10, k11, k12, k13, k14, k15, k16, k17, k18, a1, a2, a3, a4, a5, a6, a7, a8, a9, a10, a11, a12, a13, a14, a15, upd a16 0 s, upd a17 0 0, a18, a19, a20, a21)) (hs : x.toInt8.toInt32 = s := by decide) : wpX_enterExpression post (k1, k2, k3, k4, k5, k6, k7, k8, 0, k10, k11, k12, k13, k14, k15, k16, k17, k18, a1, a2, a3, a4, a5, a6, a7, a8, a9, a10, a11, a12, a13, a14, a15, a16, a17, a18, a19, a20, a21) x := by
  subst hs
  unfold wpX_enterExpression
  refine ⟨vp_in_iff.mpr (by decide), ?_⟩
  refine nm_e ⟨vp_in_iff.mpr (by decide), ?_⟩
  exact nm_e (nm_r (by decide) h)
theorem bz_hops {p q : Int32} (e : p = q) (h0 : 0 ≤ p) (hm : ¬ p < 0) (h : po1 0) : wpX_hopsTo po1 (k1, k2, k3, k4, k5, k6, k7, k8, k9, k10, k11, k12, k13, k14, k15, k16, k17, k18, a1, a2, a3, a4, a5, a6, a7, a8, a9, a10, a11, a12, a13, a14, a15, a16, a17, a18, a19, a20, a21) p q := by
  subst e
  exact ⟨1, br_f hm (br_t rfl (br_t h0 h))⟩
theorem bz_ff0 {p : Int32} (e : k7 = p) (h0 : 0 ≤ k7) (hm : ¬ k7 < 0) (h : po2 0 (k1, k2, k3, k4, k5, k6, k7, k8, k9, k10, k11, k12, k13, k14, k15, k16, k17, k18, a1, a2, a3, a4, a5, a6, a7, a8, a9, a10, a11, a12, a13, a14, a15, a16, a17, a18, a19, a20, a21)) : wpX_findFrame po2 (k1, k2, k3, k4, k5, k6, k7, k8, k9, k10, k11, k12, k13, k14, k15, k16, k17, k18, a1, a2, a3, a4, a5, a6, a7, a8, a9, a10, a11, a12, a13, a14, a15, a16, a17, a18, a19, a20, a21) p := by
  unfold wpX_findFrame
  refine bz_hops e h0 hm ?_
  exact br_t rfl h
theorem bz_mode0 {p k : Int32} (j : Nat) (r : Int32) (hp : p = nI j) (hj : j < 5) (hk : k = 0) (hr : a2 j - a2 j / 3 * 3 = r) (h : po1 r) : wpX_modeOf po1 (k1, k2, k3, k4, k5, k6, k7, k8, k9, k10, k11, k12, k13, k14, k15, k16, k17, k18, a1, a2, a3, a4, a5, a6, a7, a8, a9, a10, a11, a12, a13, a14, a15, a16, a17, a18, a19, a20, a21) p k := by
  subst hp
  unfold wpX_modeOf
  refine br_t hk ⟨vp_in_nI hj (by decide), by decide, ?_⟩
  rw [nI_clamp (by omega), hr]
  exact h
theorem bz_mode1 {p k : Int32} (j : Nat) (r : Int32) (hp : p = nI j) (hj : j < 5) (hk : ¬ k = 0) (hr : a2 j / 3 = r) (h : po1 r) : wpX_modeOf po1 (k1, k2, k3, k4, k5, k6, k7, k8, k9, k10, k11, k12, k13, k14, k15, k16, k17, k18, a1, a2, a3, a4, a5, a6, a7, a8, a9, a10, a11, a12, a13, a14, a15, a16, a17, a18, a19, a20, a21) p k := by
  subst hp
  unfold wpX_modeOf
  refine br_f hk ⟨vp_in_nI hj (by decide), by decide, ?_⟩
  rw [nI_clamp (by omega), hr]
  exact h
theorem bz_touch {w r f o : Int32} (n' b c d : Nat) (hn : 32 + C.length = n) (hf : f = 0) (h : 32 + (C ++ [b, c, d]).length = n' → post (k1, k2, k3, k4, nI n', k6, k7, k8, k9, k10, k11, k12, k13, k14, k15, k16, k17, k18, a1, a2, a3, a4, a5, a6, a7, a8, a9, a10, a11, a12, a13, a14, a15, a16, a17, bz_mem st ac (C ++ [b, c, d]) H, a19, a20, a21)) (hx : w.toInt8.toInt32 = bz_b b := by decide) (hy : ((64 ||| (r <<< ((3 : Int32) &&& 31))) ||| 6).toInt8.toInt32 = bz_b c := by decide) (hz : o.toInt8.toInt32 = bz_b d := by decide) (hl : n < 1990 := by decide) (hn' : n + 3 = n' := by rfl) : wpX_touch post (k1, k2, k3, k4, nI n, k6, k7, k8, k9, k10, k11, k12, k13, k14, k15, k16, k17, k18, a1, a2, a3, a4, a5, a6, a7, a8, a9, a10, a11, a12, a13, a14, a15, a16, a17, bz_mem st ac C H, a19, a20, a21) w r f o := by
  unfold wpX_touch
  refine br_t hf ?_
  unfold wX_touch_19
  exact bz_put3 n' b c d hn h hx hy hz hl hn'
end
end
section
section
variable {po2 : Int32 → St2 → Prop} {k1 k2 k3 k4 k5 k6 k7 k8 k9 k10 k11 k12 k13 k14 k15 k16 k17 k18 : Int32} {a1 a2 a3 a4 a5 a6 a7 a8 a9 a10 a11 a12 a13 a14 a15 a16 a17 a18 a19 a20 a21 : Nat → Int32} {n q : Nat}
def bz_cd0 (d q : Nat) : List Nat := [94, 0, 142, 0, 0, 0, 0, 0, 0, 0, 0, 0, 0, 0, 0, 0, 0, 0, 0, 0, 0, 0, 0, 0, 0, 0, 0, 0, 0, 0, 0, 0, 80, 139, 54, 32, 0, 255, 214, 184, 0, 0, 205, 0, 129, 62, 2, 0, 244, 1, 124, 5, 184, 1, 0, 205, 0, 255, 6, 2, 0, 195, 85, 139, 236, 131, 62, 4, 0, 12, 124, 5, 184, 2, 0, 205, 0, 255, 6, 4, 0, 51, 192, 80, 80, 80, 232, 211, 255, 139, 70, d, 80, 85, 139, 54, 34, 0, 255, 214, 139, 229, 255, 14, 4, 0, 93, 194, 2, 0, 85, 139, 236, 131, 62, 4, 0, 12, 124, 5, 184, 2, 0, 205, 0, 255, 6, 4, 0, 51, 192, 80, 80, 80, 232, 163, 255, 184, q % 256, q / 256, 137, 70, 6, 139, 229, 255, 14, 4, 0, 93, 194, 4, 0]
def bz_cd1 (d q : Nat) : List Nat := [94, 0, 156, 0, 0, 0, 0, 0, 0, 0, 0, 0, 0, 0, 0, 0, 0, 0, 0, 0, 0, 0, 0, 0, 0, 0, 0, 0, 0, 0, 0, 0, 80, 139, 54, 32, 0, 255, 214, 184, 0, 0, 205, 0, 129, 62, 2, 0, 244, 1, 124, 5, 184, 1, 0, 205, 0, 255, 6, 2, 0, 195, 85, 139, 236, 131, 62, 4, 0, 12, 124, 5, 184, 2, 0, 205, 0, 255, 6, 4, 0, 51, 192, 80, 80, 80, 232, 211, 255, 233, 10, 0, 141, 94, d, 11, 201, 117, 2, 139, 7, 195, 85, 184, 124, 0, 80, 85, 139, 54, 34, 0, 255, 214, 139, 229, 255, 14, 4, 0, 93, 194, 2, 0, 85, 139, 236, 131, 62, 4, 0, 12, 124, 5, 184, 2, 0, 205, 0, 255, 6, 4, 0, 51, 192, 80, 80, 80, 232, 149, 255, 184, q % 256, q / 256, 80, 232, 142, 255, 139, 118, 6, 85, 139, 110, 8, 185, 1, 0, 255, 214, 93, 88, 137, 7, 139, 229, 255, 14, 4, 0, 93, 194, 6, 0]
theorem bz_r02_0 (hq : q < 65536) (h : wX_run_90 po2 n k1 k2 k3 k4 k5 k6 k7 k8 k9 (nI 118) 1 0 0 (nI 0) 1 (nI 0) k17 k18 a1 a2 a3 a4 a5 a6 a7 a8 a9 a10 a11 a12 a13 a14 a15 a16 a17 (bz_mem 0 1 (bz_cd0 254 q) [0, 0, 71, 0, 0, 0, 0, 0, 0, 0, 0, 0, 0, 0, 0, 0, 0, 0]) (bz_rg [0, 0, 0, 0, 4082, 4088, 94, 0]) a20 a21) : wX_run_90 po2 (n + 12) k1 k2 k3 k4 k5 k6 k7 k8 k9 (nI 64) 0 0 0 (nI 0) 0 (nI 0) k17 k18 a1 a2 a3 a4 a5 a6 a7 a8 a9 a10 a11 a12 a13 a14 a15 a16 a17 (bz_mem 0 0 (bz_cd0 254 q) [0, 0, 0, 0, 0, 0, 0, 0, 0, 0, 0, 0, 0, 0, 0, 0, 0, 0]) (bz_rg [0, 0, 0, 0, 4094, 0, 0, 0]) a20 a21 := by
  refine bz_run (n := n + 11) (bz_iPush0 65 0 0 [0, 0, 0, 0, 4092, 0, 0, 0] [0, 0, 0, 0, 0, 0, 0, 0, 0, 0, 0, 0, 0, 0, 0, 0, 0, 0] ?_)
  refine bz_run (n := n + 10) (bz_iLdC 69 32 0 32 94 0 94 [0, 0, 0, 0, 4092, 0, 94, 0] ?_)
  refine bz_run (n := n + 9) (bz_iCallSi 94 1 71 [0, 0, 0, 0, 4090, 0, 94, 0] [0, 0, 71, 0, 0, 0, 0, 0, 0, 0, 0, 0, 0, 0, 0, 0, 0, 0] ?_)
  refine bz_run (n := n + 8) (bz_iPush5 95 2 0 [0, 0, 0, 0, 4088, 0, 94, 0] [0, 0, 71, 0, 0, 0, 0, 0, 0, 0, 0, 0, 0, 0, 0, 0, 0, 0] ?_)
  refine bz_run (n := n + 7) (bz_iMovBpSp 97 4088 [0, 0, 0, 0, 4088, 4088, 94, 0] ?_)
  refine bz_run (n := n + 6) (bz_iCmpAc 102 ?_)
  refine bz_run (n := n + 5) (bz_iJl 109 5 104 ?_)
  refine bz_run (n := n + 4) (bz_iIncAc 113 1 ?_)
  refine bz_run (n := n + 3) (bz_iXor 115 0 0 1 [0, 0, 0, 0, 4088, 4088, 94, 0] ?_)
  refine bz_run (n := n + 2) (bz_iPush0 116 3 0 [0, 0, 0, 0, 4086, 4088, 94, 0] [0, 0, 71, 0, 0, 0, 0, 0, 0, 0, 0, 0, 0, 0, 0, 0, 0, 0] ?_)
  refine bz_run (n := n + 1) (bz_iPush0 117 4 0 [0, 0, 0, 0, 4084, 4088, 94, 0] [0, 0, 71, 0, 0, 0, 0, 0, 0, 0, 0, 0, 0, 0, 0, 0, 0, 0] ?_)
  refine bz_run (n := n + 0) (bz_iPush0 118 5 0 [0, 0, 0, 0, 4082, 4088, 94, 0] [0, 0, 71, 0, 0, 0, 0, 0, 0, 0, 0, 0, 0, 0, 0, 0, 0, 0] ?_)
  exact h
theorem bz_r02_12 (hq : q < 65536) (h : wX_run_90 po2 n k1 k2 k3 k4 k5 k6 k7 k8 k9 (nI 145) 0 1 0 (nI 4) 1 (nI 5) k17 k18 a1 a2 a3 a4 a5 a6 a7 a8 a9 a10 a11 a12 a13 a14 a15 a16 a17 (bz_mem 1 1 (bz_cd0 254 q) [0, 0, 71, 0, 0, 0, 0, 0, 4088, 132, 4088, 0, 0, 0, 0, 0, 0, 0]) (bz_rg [0, 0, 0, 0, 4074, 4074, 142, 0]) a20 a21) : wX_run_90 po2 (n + 12) k1 k2 k3 k4 k5 k6 k7 k8 k9 (nI 118) 1 0 0 (nI 0) 1 (nI 0) k17 k18 a1 a2 a3 a4 a5 a6 a7 a8 a9 a10 a11 a12 a13 a14 a15 a16 a17 (bz_mem 0 1 (bz_cd0 254 q) [0, 0, 71, 0, 0, 0, 0, 0, 0, 0, 0, 0, 0, 0, 0, 0, 0, 0]) (bz_rg [0, 0, 0, 0, 4082, 4088, 94, 0]) a20 a21 := by
  refine bz_run (n := n + 11) (bz_iCall 76 6 121 211 255 65491 [0, 0, 0, 0, 4080, 4088, 94, 0] [0, 0, 71, 0, 0, 0, 0, 121, 0, 0, 0, 0, 0, 0, 0, 0, 0, 0] ?_)
  refine bz_run (n := n + 10) (bz_iCmpSt 82 ?_)
  refine bz_run (n := n + 9) (bz_iJl 89 5 84 ?_)
  refine bz_run (n := n + 8) (bz_iIncSt 93 1 ?_)
  refine bz_run (n := n + 7) (bz_iRet 7 121 [0, 0, 0, 0, 4082, 4088, 94, 0] ?_)
  refine bz_run (n := n + 6) (bz_iLd0 124 254 4088 4086 4 0 [0, 0, 0, 0, 4082, 4088, 94, 0] ?_)
  refine bz_run (n := n + 5) (bz_iPush0 125 6 0 [0, 0, 0, 0, 4080, 4088, 94, 0] [0, 0, 71, 0, 0, 0, 0, 0, 0, 0, 0, 0, 0, 0, 0, 0, 0, 0] ?_)
  refine bz_run (n := n + 4) (bz_iPush5 126 7 4088 [0, 0, 0, 0, 4078, 4088, 94, 0] [0, 0, 71, 0, 0, 0, 0, 0, 4088, 0, 0, 0, 0, 0, 0, 0, 0, 0] ?_)
  refine bz_run (n := n + 3) (bz_iLdC 130 34 0 34 142 0 142 [0, 0, 0, 0, 4078, 4088, 142, 0] ?_)
  refine bz_run (n := n + 2) (bz_iCallSi 142 8 132 [0, 0, 0, 0, 4076, 4088, 142, 0] [0, 0, 71, 0, 0, 0, 0, 0, 4088, 132, 0, 0, 0, 0, 0, 0, 0, 0] ?_)
  refine bz_run (n := n + 1) (bz_iPush5 143 9 4088 [0, 0, 0, 0, 4074, 4088, 142, 0] [0, 0, 71, 0, 0, 0, 0, 0, 4088, 132, 4088, 0, 0, 0, 0, 0, 0, 0] ?_)
  refine bz_run (n := n + 0) (bz_iMovBpSp 145 4074 [0, 0, 0, 0, 4074, 4074, 142, 0] ?_)
  exact h
theorem bz_r02_24 (hq : q < 65536) (h : wX_run_90 po2 n k1 k2 k3 k4 k5 k6 k7 k8 k9 (nI 169) 0 1 0 (nI 2) 0 (nI 0) k17 k18 a1 a2 a3 a4 a5 a6 a7 a8 a9 a10 a11 a12 a13 a14 a15 a16 a17 (bz_mem 2 2 (bz_cd0 254 q) [0, 0, 71, 0, 0, 0, 0, 0, 4088, 132, 4088, 0, 0, 0, 169, 0, 0, 0]) (bz_rg [0, 0, 0, 0, 4068, 4074, 142, 0]) a20 a21) : wX_run_90 po2 (n + 12) k1 k2 k3 k4 k5 k6 k7 k8 k9 (nI 145) 0 1 0 (nI 4) 1 (nI 5) k17 k18 a1 a2 a3 a4 a5 a6 a7 a8 a9 a10 a11 a12 a13 a14 a15 a16 a17 (bz_mem 1 1 (bz_cd0 254 q) [0, 0, 71, 0, 0, 0, 0, 0, 4088, 132, 4088, 0, 0, 0, 0, 0, 0, 0]) (bz_rg [0, 0, 0, 0, 4074, 4074, 142, 0]) a20 a21 := by
  refine bz_run (n := n + 11) (bz_iCmpAc 150 ?_)
  refine bz_run (n := n + 10) (bz_iJl 157 5 152 ?_)
  refine bz_run (n := n + 9) (bz_iIncAc 161 2 ?_)
  refine bz_run (n := n + 8) (bz_iXor 163 0 0 1 [0, 0, 0, 0, 4074, 4074, 142, 0] ?_)
  refine bz_run (n := n + 7) (bz_iPush0 164 10 0 [0, 0, 0, 0, 4072, 4074, 142, 0] [0, 0, 71, 0, 0, 0, 0, 0, 4088, 132, 4088, 0, 0, 0, 0, 0, 0, 0] ?_)
  refine bz_run (n := n + 6) (bz_iPush0 165 11 0 [0, 0, 0, 0, 4070, 4074, 142, 0] [0, 0, 71, 0, 0, 0, 0, 0, 4088, 132, 4088, 0, 0, 0, 0, 0, 0, 0] ?_)
  refine bz_run (n := n + 5) (bz_iPush0 166 12 0 [0, 0, 0, 0, 4068, 4074, 142, 0] [0, 0, 71, 0, 0, 0, 0, 0, 4088, 132, 4088, 0, 0, 0, 0, 0, 0, 0] ?_)
  refine bz_run (n := n + 4) (bz_iCall 76 13 169 163 255 65443 [0, 0, 0, 0, 4066, 4074, 142, 0] [0, 0, 71, 0, 0, 0, 0, 0, 4088, 132, 4088, 0, 0, 0, 169, 0, 0, 0] ?_)
  refine bz_run (n := n + 3) (bz_iCmpSt 82 ?_)
  refine bz_run (n := n + 2) (bz_iJl 89 5 84 ?_)
  refine bz_run (n := n + 1) (bz_iIncSt 93 2 ?_)
  refine bz_run (n := n + 0) (bz_iRet 14 169 [0, 0, 0, 0, 4068, 4074, 142, 0] ?_)
  exact h
theorem bz_r02_36 (hq : q < 65536) (h : wX_run_90 po2 n k1 k2 k3 k4 k5 k6 k7 k8 k9 (nI 76) 0 1 1 (nI 4) 0 (nI 1) k17 k18 a1 a2 a3 a4 a5 a6 a7 a8 a9 a10 a11 a12 a13 a14 a15 a16 a17 (bz_mem 2 0 (bz_cd0 254 q) [0, 0, 71, 0, 0, 0, 0, q, 4088, 132, 4088, 0, 0, 0, 169, 0, 0, 0]) (bz_rg [0, 0, 0, 0, 4094, 0, 142, 0]) a20 a21) : wX_run_90 po2 (n + 12) k1 k2 k3 k4 k5 k6 k7 k8 k9 (nI 169) 0 1 0 (nI 2) 0 (nI 0) k17 k18 a1 a2 a3 a4 a5 a6 a7 a8 a9 a10 a11 a12 a13 a14 a15 a16 a17 (bz_mem 2 2 (bz_cd0 254 q) [0, 0, 71, 0, 0, 0, 0, 0, 4088, 132, 4088, 0, 0, 0, 169, 0, 0, 0]) (bz_rg [0, 0, 0, 0, 4068, 4074, 142, 0]) a20 a21 := by
  refine bz_run (n := n + 11) (bz_iMov0 172 (q % 256) (q / 256) q [q, 0, 0, 0, 4068, 4074, 142, 0] ?_ (hl := by omega) (hh := by omega) (hw := by omega))
  refine bz_run (n := n + 10) (bz_iStBp 175 6 4074 4080 7 q [0, 0, 71, 0, 0, 0, 0, q, 4088, 132, 4088, 0, 0, 0, 169, 0, 0, 0] ?_)
  refine bz_run (n := n + 9) (bz_iMovSpBp 177 4074 [q, 0, 0, 0, 4074, 4074, 142, 0] ?_)
  refine bz_run (n := n + 8) (bz_iDecAc 181 1 ?_)
  refine bz_run (n := n + 7) (bz_iPop5 182 10 4088 [q, 0, 0, 0, 4076, 4088, 142, 0] ?_)
  refine bz_run (n := n + 6) (bz_iRetn 9 132 4 0 4 4082 [q, 0, 0, 0, 4082, 4088, 142, 0] ?_)
  refine bz_run (n := n + 5) (bz_iMovSpBp 134 4088 [q, 0, 0, 0, 4088, 4088, 142, 0] ?_)
  refine bz_run (n := n + 4) (bz_iDecAc 138 0 ?_)
  refine bz_run (n := n + 3) (bz_iPop5 139 3 0 [q, 0, 0, 0, 4090, 0, 142, 0] ?_)
  refine bz_run (n := n + 2) (bz_iRetn 2 71 2 0 2 4094 [q, 0, 0, 0, 4094, 0, 142, 0] ?_)
  refine bz_run (n := n + 1) (bz_iMov0 74 0 0 0 [0, 0, 0, 0, 4094, 0, 142, 0] ?_)
  refine bz_run (n := n + 0) (bz_iInt 76 ?_)
  exact h
theorem bz_r02 (hq : q < 65536) (h : wX_run_90 po2 n k1 k2 k3 k4 k5 k6 k7 k8 k9 (nI 76) 0 1 1 (nI 4) 0 (nI 1) k17 k18 a1 a2 a3 a4 a5 a6 a7 a8 a9 a10 a11 a12 a13 a14 a15 a16 a17 (bz_mem 2 0 (bz_cd0 254 q) [0, 0, 71, 0, 0, 0, 0, q, 4088, 132, 4088, 0, 0, 0, 169, 0, 0, 0]) (bz_rg [0, 0, 0, 0, 4094, 0, 142, 0]) a20 a21) : wX_run_90 po2 (n + 48) k1 k2 k3 k4 k5 k6 k7 k8 k9 (nI 64) 0 0 0 (nI 0) 0 (nI 0) k17 k18 a1 a2 a3 a4 a5 a6 a7 a8 a9 a10 a11 a12 a13 a14 a15 a16 a17 (bz_mem 0 0 (bz_cd0 254 q) [0, 0, 0, 0, 0, 0, 0, 0, 0, 0, 0, 0, 0, 0, 0, 0, 0, 0]) (bz_rg [0, 0, 0, 0, 4094, 0, 0, 0]) a20 a21 := by
  refine bz_r02_0 (n := n + 36) hq ?_
  refine bz_r02_12 (n := n + 24) hq ?_
  refine bz_r02_24 (n := n + 12) hq ?_
  refine bz_r02_36 (n := n + 0) hq ?_
  exact h
theorem bz_r03_0 (hq : q < 65536) (h : wX_run_90 po2 n k1 k2 k3 k4 k5 k6 k7 k8 k9 (nI 118) 1 0 0 (nI 0) 1 (nI 0) k17 k18 a1 a2 a3 a4 a5 a6 a7 a8 a9 a10 a11 a12 a13 a14 a15 a16 a17 (bz_mem 0 1 (bz_cd0 252 q) [0, 0, 71, 0, 0, 0, 0, 0, 0, 0, 0, 0, 0, 0, 0, 0, 0, 0]) (bz_rg [0, 0, 0, 0, 4082, 4088, 94, 0]) a20 a21) : wX_run_90 po2 (n + 12) k1 k2 k3 k4 k5 k6 k7 k8 k9 (nI 64) 0 0 0 (nI 0) 0 (nI 0) k17 k18 a1 a2 a3 a4 a5 a6 a7 a8 a9 a10 a11 a12 a13 a14 a15 a16 a17 (bz_mem 0 0 (bz_cd0 252 q) [0, 0, 0, 0, 0, 0, 0, 0, 0, 0, 0, 0, 0, 0, 0, 0, 0, 0]) (bz_rg [0, 0, 0, 0, 4094, 0, 0, 0]) a20 a21 := by
  refine bz_run (n := n + 11) (bz_iPush0 65 0 0 [0, 0, 0, 0, 4092, 0, 0, 0] [0, 0, 0, 0, 0, 0, 0, 0, 0, 0, 0, 0, 0, 0, 0, 0, 0, 0] ?_)
  refine bz_run (n := n + 10) (bz_iLdC 69 32 0 32 94 0 94 [0, 0, 0, 0, 4092, 0, 94, 0] ?_)
  refine bz_run (n := n + 9) (bz_iCallSi 94 1 71 [0, 0, 0, 0, 4090, 0, 94, 0] [0, 0, 71, 0, 0, 0, 0, 0, 0, 0, 0, 0, 0, 0, 0, 0, 0, 0] ?_)
  refine bz_run (n := n + 8) (bz_iPush5 95 2 0 [0, 0, 0, 0, 4088, 0, 94, 0] [0, 0, 71, 0, 0, 0, 0, 0, 0, 0, 0, 0, 0, 0, 0, 0, 0, 0] ?_)
  refine bz_run (n := n + 7) (bz_iMovBpSp 97 4088 [0, 0, 0, 0, 4088, 4088, 94, 0] ?_)
  refine bz_run (n := n + 6) (bz_iCmpAc 102 ?_)
  refine bz_run (n := n + 5) (bz_iJl 109 5 104 ?_)
  refine bz_run (n := n + 4) (bz_iIncAc 113 1 ?_)
  refine bz_run (n := n + 3) (bz_iXor 115 0 0 1 [0, 0, 0, 0, 4088, 4088, 94, 0] ?_)
  refine bz_run (n := n + 2) (bz_iPush0 116 3 0 [0, 0, 0, 0, 4086, 4088, 94, 0] [0, 0, 71, 0, 0, 0, 0, 0, 0, 0, 0, 0, 0, 0, 0, 0, 0, 0] ?_)
  refine bz_run (n := n + 1) (bz_iPush0 117 4 0 [0, 0, 0, 0, 4084, 4088, 94, 0] [0, 0, 71, 0, 0, 0, 0, 0, 0, 0, 0, 0, 0, 0, 0, 0, 0, 0] ?_)
  refine bz_run (n := n + 0) (bz_iPush0 118 5 0 [0, 0, 0, 0, 4082, 4088, 94, 0] [0, 0, 71, 0, 0, 0, 0, 0, 0, 0, 0, 0, 0, 0, 0, 0, 0, 0] ?_)
  exact h
theorem bz_r03_12 (hq : q < 65536) (h : wX_run_90 po2 n k1 k2 k3 k4 k5 k6 k7 k8 k9 (nI 145) 0 1 0 (nI 4) 1 (nI 5) k17 k18 a1 a2 a3 a4 a5 a6 a7 a8 a9 a10 a11 a12 a13 a14 a15 a16 a17 (bz_mem 1 1 (bz_cd0 252 q) [0, 0, 71, 0, 0, 0, 0, 0, 4088, 132, 4088, 0, 0, 0, 0, 0, 0, 0]) (bz_rg [0, 0, 0, 0, 4074, 4074, 142, 0]) a20 a21) : wX_run_90 po2 (n + 12) k1 k2 k3 k4 k5 k6 k7 k8 k9 (nI 118) 1 0 0 (nI 0) 1 (nI 0) k17 k18 a1 a2 a3 a4 a5 a6 a7 a8 a9 a10 a11 a12 a13 a14 a15 a16 a17 (bz_mem 0 1 (bz_cd0 252 q) [0, 0, 71, 0, 0, 0, 0, 0, 0, 0, 0, 0, 0, 0, 0, 0, 0, 0]) (bz_rg [0, 0, 0, 0, 4082, 4088, 94, 0]) a20 a21 := by
  refine bz_run (n := n + 11) (bz_iCall 76 6 121 211 255 65491 [0, 0, 0, 0, 4080, 4088, 94, 0] [0, 0, 71, 0, 0, 0, 0, 121, 0, 0, 0, 0, 0, 0, 0, 0, 0, 0] ?_)
  refine bz_run (n := n + 10) (bz_iCmpSt 82 ?_)
  refine bz_run (n := n + 9) (bz_iJl 89 5 84 ?_)
  refine bz_run (n := n + 8) (bz_iIncSt 93 1 ?_)
  refine bz_run (n := n + 7) (bz_iRet 7 121 [0, 0, 0, 0, 4082, 4088, 94, 0] ?_)
  refine bz_run (n := n + 6) (bz_iLd0 124 252 4088 4084 5 0 [0, 0, 0, 0, 4082, 4088, 94, 0] ?_)
  refine bz_run (n := n + 5) (bz_iPush0 125 6 0 [0, 0, 0, 0, 4080, 4088, 94, 0] [0, 0, 71, 0, 0, 0, 0, 0, 0, 0, 0, 0, 0, 0, 0, 0, 0, 0] ?_)
  refine bz_run (n := n + 4) (bz_iPush5 126 7 4088 [0, 0, 0, 0, 4078, 4088, 94, 0] [0, 0, 71, 0, 0, 0, 0, 0, 4088, 0, 0, 0, 0, 0, 0, 0, 0, 0] ?_)
  refine bz_run (n := n + 3) (bz_iLdC 130 34 0 34 142 0 142 [0, 0, 0, 0, 4078, 4088, 142, 0] ?_)
  refine bz_run (n := n + 2) (bz_iCallSi 142 8 132 [0, 0, 0, 0, 4076, 4088, 142, 0] [0, 0, 71, 0, 0, 0, 0, 0, 4088, 132, 0, 0, 0, 0, 0, 0, 0, 0] ?_)
  refine bz_run (n := n + 1) (bz_iPush5 143 9 4088 [0, 0, 0, 0, 4074, 4088, 142, 0] [0, 0, 71, 0, 0, 0, 0, 0, 4088, 132, 4088, 0, 0, 0, 0, 0, 0, 0] ?_)
  refine bz_run (n := n + 0) (bz_iMovBpSp 145 4074 [0, 0, 0, 0, 4074, 4074, 142, 0] ?_)
  exact h
theorem bz_r03_24 (hq : q < 65536) (h : wX_run_90 po2 n k1 k2 k3 k4 k5 k6 k7 k8 k9 (nI 169) 0 1 0 (nI 2) 0 (nI 0) k17 k18 a1 a2 a3 a4 a5 a6 a7 a8 a9 a10 a11 a12 a13 a14 a15 a16 a17 (bz_mem 2 2 (bz_cd0 252 q) [0, 0, 71, 0, 0, 0, 0, 0, 4088, 132, 4088, 0, 0, 0, 169, 0, 0, 0]) (bz_rg [0, 0, 0, 0, 4068, 4074, 142, 0]) a20 a21) : wX_run_90 po2 (n + 12) k1 k2 k3 k4 k5 k6 k7 k8 k9 (nI 145) 0 1 0 (nI 4) 1 (nI 5) k17 k18 a1 a2 a3 a4 a5 a6 a7 a8 a9 a10 a11 a12 a13 a14 a15 a16 a17 (bz_mem 1 1 (bz_cd0 252 q) [0, 0, 71, 0, 0, 0, 0, 0, 4088, 132, 4088, 0, 0, 0, 0, 0, 0, 0]) (bz_rg [0, 0, 0, 0, 4074, 4074, 142, 0]) a20 a21 := by
  refine bz_run (n := n + 11) (bz_iCmpAc 150 ?_)
  refine bz_run (n := n + 10) (bz_iJl 157 5 152 ?_)
  refine bz_run (n := n + 9) (bz_iIncAc 161 2 ?_)
  refine bz_run (n := n + 8) (bz_iXor 163 0 0 1 [0, 0, 0, 0, 4074, 4074, 142, 0] ?_)
  refine bz_run (n := n + 7) (bz_iPush0 164 10 0 [0, 0, 0, 0, 4072, 4074, 142, 0] [0, 0, 71, 0, 0, 0, 0, 0, 4088, 132, 4088, 0, 0, 0, 0, 0, 0, 0] ?_)
  refine bz_run (n := n + 6) (bz_iPush0 165 11 0 [0, 0, 0, 0, 4070, 4074, 142, 0] [0, 0, 71, 0, 0, 0, 0, 0, 4088, 132, 4088, 0, 0, 0, 0, 0, 0, 0] ?_)
  refine bz_run (n := n + 5) (bz_iPush0 166 12 0 [0, 0, 0, 0, 4068, 4074, 142, 0] [0, 0, 71, 0, 0, 0, 0, 0, 4088, 132, 4088, 0, 0, 0, 0, 0, 0, 0] ?_)
  refine bz_run (n := n + 4) (bz_iCall 76 13 169 163 255 65443 [0, 0, 0, 0, 4066, 4074, 142, 0] [0, 0, 71, 0, 0, 0, 0, 0, 4088, 132, 4088, 0, 0, 0, 169, 0, 0, 0] ?_)
  refine bz_run (n := n + 3) (bz_iCmpSt 82 ?_)
  refine bz_run (n := n + 2) (bz_iJl 89 5 84 ?_)
  refine bz_run (n := n + 1) (bz_iIncSt 93 2 ?_)
  refine bz_run (n := n + 0) (bz_iRet 14 169 [0, 0, 0, 0, 4068, 4074, 142, 0] ?_)
  exact h
theorem bz_r03_36 (hq : q < 65536) (h : wX_run_90 po2 n k1 k2 k3 k4 k5 k6 k7 k8 k9 (nI 76) 0 1 1 (nI 4) 0 (nI 1) k17 k18 a1 a2 a3 a4 a5 a6 a7 a8 a9 a10 a11 a12 a13 a14 a15 a16 a17 (bz_mem 2 0 (bz_cd0 252 q) [0, 0, 71, 0, 0, 0, 0, q, 4088, 132, 4088, 0, 0, 0, 169, 0, 0, 0]) (bz_rg [0, 0, 0, 0, 4094, 0, 142, 0]) a20 a21) : wX_run_90 po2 (n + 12) k1 k2 k3 k4 k5 k6 k7 k8 k9 (nI 169) 0 1 0 (nI 2) 0 (nI 0) k17 k18 a1 a2 a3 a4 a5 a6 a7 a8 a9 a10 a11 a12 a13 a14 a15 a16 a17 (bz_mem 2 2 (bz_cd0 252 q) [0, 0, 71, 0, 0, 0, 0, 0, 4088, 132, 4088, 0, 0, 0, 169, 0, 0, 0]) (bz_rg [0, 0, 0, 0, 4068, 4074, 142, 0]) a20 a21 := by
  refine bz_run (n := n + 11) (bz_iMov0 172 (q % 256) (q / 256) q [q, 0, 0, 0, 4068, 4074, 142, 0] ?_ (hl := by omega) (hh := by omega) (hw := by omega))
  refine bz_run (n := n + 10) (bz_iStBp 175 6 4074 4080 7 q [0, 0, 71, 0, 0, 0, 0, q, 4088, 132, 4088, 0, 0, 0, 169, 0, 0, 0] ?_)
  refine bz_run (n := n + 9) (bz_iMovSpBp 177 4074 [q, 0, 0, 0, 4074, 4074, 142, 0] ?_)
  refine bz_run (n := n + 8) (bz_iDecAc 181 1 ?_)
  refine bz_run (n := n + 7) (bz_iPop5 182 10 4088 [q, 0, 0, 0, 4076, 4088, 142, 0] ?_)
  refine bz_run (n := n + 6) (bz_iRetn 9 132 4 0 4 4082 [q, 0, 0, 0, 4082, 4088, 142, 0] ?_)
  refine bz_run (n := n + 5) (bz_iMovSpBp 134 4088 [q, 0, 0, 0, 4088, 4088, 142, 0] ?_)
  refine bz_run (n := n + 4) (bz_iDecAc 138 0 ?_)
  refine bz_run (n := n + 3) (bz_iPop5 139 3 0 [q, 0, 0, 0, 4090, 0, 142, 0] ?_)
  refine bz_run (n := n + 2) (bz_iRetn 2 71 2 0 2 4094 [q, 0, 0, 0, 4094, 0, 142, 0] ?_)
  refine bz_run (n := n + 1) (bz_iMov0 74 0 0 0 [0, 0, 0, 0, 4094, 0, 142, 0] ?_)
  refine bz_run (n := n + 0) (bz_iInt 76 ?_)
  exact h
theorem bz_r03 (hq : q < 65536) (h : wX_run_90 po2 n k1 k2 k3 k4 k5 k6 k7 k8 k9 (nI 76) 0 1 1 (nI 4) 0 (nI 1) k17 k18 a1 a2 a3 a4 a5 a6 a7 a8 a9 a10 a11 a12 a13 a14 a15 a16 a17 (bz_mem 2 0 (bz_cd0 252 q) [0, 0, 71, 0, 0, 0, 0, q, 4088, 132, 4088, 0, 0, 0, 169, 0, 0, 0]) (bz_rg [0, 0, 0, 0, 4094, 0, 142, 0]) a20 a21) : wX_run_90 po2 (n + 48) k1 k2 k3 k4 k5 k6 k7 k8 k9 (nI 64) 0 0 0 (nI 0) 0 (nI 0) k17 k18 a1 a2 a3 a4 a5 a6 a7 a8 a9 a10 a11 a12 a13 a14 a15 a16 a17 (bz_mem 0 0 (bz_cd0 252 q) [0, 0, 0, 0, 0, 0, 0, 0, 0, 0, 0, 0, 0, 0, 0, 0, 0, 0]) (bz_rg [0, 0, 0, 0, 4094, 0, 0, 0]) a20 a21 := by
  refine bz_r03_0 (n := n + 36) hq ?_
  refine bz_r03_12 (n := n + 24) hq ?_
  refine bz_r03_24 (n := n + 12) hq ?_
  refine bz_r03_36 (n := n + 0) hq ?_
  exact h
theorem bz_r04_0 (hq : q < 65536) (h : wX_run_90 po2 n k1 k2 k3 k4 k5 k6 k7 k8 k9 (nI 118) 1 0 0 (nI 0) 1 (nI 0) k17 k18 a1 a2 a3 a4 a5 a6 a7 a8 a9 a10 a11 a12 a13 a14 a15 a16 a17 (bz_mem 0 1 (bz_cd0 250 q) [0, 0, 71, 0, 0, 0, 0, 0, 0, 0, 0, 0, 0, 0, 0, 0, 0, 0]) (bz_rg [0, 0, 0, 0, 4082, 4088, 94, 0]) a20 a21) : wX_run_90 po2 (n + 12) k1 k2 k3 k4 k5 k6 k7 k8 k9 (nI 64) 0 0 0 (nI 0) 0 (nI 0) k17 k18 a1 a2 a3 a4 a5 a6 a7 a8 a9 a10 a11 a12 a13 a14 a15 a16 a17 (bz_mem 0 0 (bz_cd0 250 q) [0, 0, 0, 0, 0, 0, 0, 0, 0, 0, 0, 0, 0, 0, 0, 0, 0, 0]) (bz_rg [0, 0, 0, 0, 4094, 0, 0, 0]) a20 a21 := by
  refine bz_run (n := n + 11) (bz_iPush0 65 0 0 [0, 0, 0, 0, 4092, 0, 0, 0] [0, 0, 0, 0, 0, 0, 0, 0, 0, 0, 0, 0, 0, 0, 0, 0, 0, 0] ?_)
  refine bz_run (n := n + 10) (bz_iLdC 69 32 0 32 94 0 94 [0, 0, 0, 0, 4092, 0, 94, 0] ?_)
  refine bz_run (n := n + 9) (bz_iCallSi 94 1 71 [0, 0, 0, 0, 4090, 0, 94, 0] [0, 0, 71, 0, 0, 0, 0, 0, 0, 0, 0, 0, 0, 0, 0, 0, 0, 0] ?_)
  refine bz_run (n := n + 8) (bz_iPush5 95 2 0 [0, 0, 0, 0, 4088, 0, 94, 0] [0, 0, 71, 0, 0, 0, 0, 0, 0, 0, 0, 0, 0, 0, 0, 0, 0, 0] ?_)
  refine bz_run (n := n + 7) (bz_iMovBpSp 97 4088 [0, 0, 0, 0, 4088, 4088, 94, 0] ?_)
  refine bz_run (n := n + 6) (bz_iCmpAc 102 ?_)
  refine bz_run (n := n + 5) (bz_iJl 109 5 104 ?_)
  refine bz_run (n := n + 4) (bz_iIncAc 113 1 ?_)
  refine bz_run (n := n + 3) (bz_iXor 115 0 0 1 [0, 0, 0, 0, 4088, 4088, 94, 0] ?_)
  refine bz_run (n := n + 2) (bz_iPush0 116 3 0 [0, 0, 0, 0, 4086, 4088, 94, 0] [0, 0, 71, 0, 0, 0, 0, 0, 0, 0, 0, 0, 0, 0, 0, 0, 0, 0] ?_)
  refine bz_run (n := n + 1) (bz_iPush0 117 4 0 [0, 0, 0, 0, 4084, 4088, 94, 0] [0, 0, 71, 0, 0, 0, 0, 0, 0, 0, 0, 0, 0, 0, 0, 0, 0, 0] ?_)
  refine bz_run (n := n + 0) (bz_iPush0 118 5 0 [0, 0, 0, 0, 4082, 4088, 94, 0] [0, 0, 71, 0, 0, 0, 0, 0, 0, 0, 0, 0, 0, 0, 0, 0, 0, 0] ?_)
  exact h
theorem bz_r04_12 (hq : q < 65536) (h : wX_run_90 po2 n k1 k2 k3 k4 k5 k6 k7 k8 k9 (nI 145) 0 1 0 (nI 4) 1 (nI 5) k17 k18 a1 a2 a3 a4 a5 a6 a7 a8 a9 a10 a11 a12 a13 a14 a15 a16 a17 (bz_mem 1 1 (bz_cd0 250 q) [0, 0, 71, 0, 0, 0, 0, 0, 4088, 132, 4088, 0, 0, 0, 0, 0, 0, 0]) (bz_rg [0, 0, 0, 0, 4074, 4074, 142, 0]) a20 a21) : wX_run_90 po2 (n + 12) k1 k2 k3 k4 k5 k6 k7 k8 k9 (nI 118) 1 0 0 (nI 0) 1 (nI 0) k17 k18 a1 a2 a3 a4 a5 a6 a7 a8 a9 a10 a11 a12 a13 a14 a15 a16 a17 (bz_mem 0 1 (bz_cd0 250 q) [0, 0, 71, 0, 0, 0, 0, 0, 0, 0, 0, 0, 0, 0, 0, 0, 0, 0]) (bz_rg [0, 0, 0, 0, 4082, 4088, 94, 0]) a20 a21 := by
  refine bz_run (n := n + 11) (bz_iCall 76 6 121 211 255 65491 [0, 0, 0, 0, 4080, 4088, 94, 0] [0, 0, 71, 0, 0, 0, 0, 121, 0, 0, 0, 0, 0, 0, 0, 0, 0, 0] ?_)
  refine bz_run (n := n + 10) (bz_iCmpSt 82 ?_)
  refine bz_run (n := n + 9) (bz_iJl 89 5 84 ?_)
  refine bz_run (n := n + 8) (bz_iIncSt 93 1 ?_)
  refine bz_run (n := n + 7) (bz_iRet 7 121 [0, 0, 0, 0, 4082, 4088, 94, 0] ?_)
  refine bz_run (n := n + 6) (bz_iLd0 124 250 4088 4082 6 0 [0, 0, 0, 0, 4082, 4088, 94, 0] ?_)
  refine bz_run (n := n + 5) (bz_iPush0 125 6 0 [0, 0, 0, 0, 4080, 4088, 94, 0] [0, 0, 71, 0, 0, 0, 0, 0, 0, 0, 0, 0, 0, 0, 0, 0, 0, 0] ?_)
  refine bz_run (n := n + 4) (bz_iPush5 126 7 4088 [0, 0, 0, 0, 4078, 4088, 94, 0] [0, 0, 71, 0, 0, 0, 0, 0, 4088, 0, 0, 0, 0, 0, 0, 0, 0, 0] ?_)
  refine bz_run (n := n + 3) (bz_iLdC 130 34 0 34 142 0 142 [0, 0, 0, 0, 4078, 4088, 142, 0] ?_)
  refine bz_run (n := n + 2) (bz_iCallSi 142 8 132 [0, 0, 0, 0, 4076, 4088, 142, 0] [0, 0, 71, 0, 0, 0, 0, 0, 4088, 132, 0, 0, 0, 0, 0, 0, 0, 0] ?_)
  refine bz_run (n := n + 1) (bz_iPush5 143 9 4088 [0, 0, 0, 0, 4074, 4088, 142, 0] [0, 0, 71, 0, 0, 0, 0, 0, 4088, 132, 4088, 0, 0, 0, 0, 0, 0, 0] ?_)
  refine bz_run (n := n + 0) (bz_iMovBpSp 145 4074 [0, 0, 0, 0, 4074, 4074, 142, 0] ?_)
  exact h
theorem bz_r04_24 (hq : q < 65536) (h : wX_run_90 po2 n k1 k2 k3 k4 k5 k6 k7 k8 k9 (nI 169) 0 1 0 (nI 2) 0 (nI 0) k17 k18 a1 a2 a3 a4 a5 a6 a7 a8 a9 a10 a11 a12 a13 a14 a15 a16 a17 (bz_mem 2 2 (bz_cd0 250 q) [0, 0, 71, 0, 0, 0, 0, 0, 4088, 132, 4088, 0, 0, 0, 169, 0, 0, 0]) (bz_rg [0, 0, 0, 0, 4068, 4074, 142, 0]) a20 a21) : wX_run_90 po2 (n + 12) k1 k2 k3 k4 k5 k6 k7 k8 k9 (nI 145) 0 1 0 (nI 4) 1 (nI 5) k17 k18 a1 a2 a3 a4 a5 a6 a7 a8 a9 a10 a11 a12 a13 a14 a15 a16 a17 (bz_mem 1 1 (bz_cd0 250 q) [0, 0, 71, 0, 0, 0, 0, 0, 4088, 132, 4088, 0, 0, 0, 0, 0, 0, 0]) (bz_rg [0, 0, 0, 0, 4074, 4074, 142, 0]) a20 a21 := by
  refine bz_run (n := n + 11) (bz_iCmpAc 150 ?_)
  refine bz_run (n := n + 10) (bz_iJl 157 5 152 ?_)
  refine bz_run (n := n + 9) (bz_iIncAc 161 2 ?_)
  refine bz_run (n := n + 8) (bz_iXor 163 0 0 1 [0, 0, 0, 0, 4074, 4074, 142, 0] ?_)
  refine bz_run (n := n + 7) (bz_iPush0 164 10 0 [0, 0, 0, 0, 4072, 4074, 142, 0] [0, 0, 71, 0, 0, 0, 0, 0, 4088, 132, 4088, 0, 0, 0, 0, 0, 0, 0] ?_)
  refine bz_run (n := n + 6) (bz_iPush0 165 11 0 [0, 0, 0, 0, 4070, 4074, 142, 0] [0, 0, 71, 0, 0, 0, 0, 0, 4088, 132, 4088, 0, 0, 0, 0, 0, 0, 0] ?_)
  refine bz_run (n := n + 5) (bz_iPush0 166 12 0 [0, 0, 0, 0, 4068, 4074, 142, 0] [0, 0, 71, 0, 0, 0, 0, 0, 4088, 132, 4088, 0, 0, 0, 0, 0, 0, 0] ?_)
  refine bz_run (n := n + 4) (bz_iCall 76 13 169 163 255 65443 [0, 0, 0, 0, 4066, 4074, 142, 0] [0, 0, 71, 0, 0, 0, 0, 0, 4088, 132, 4088, 0, 0, 0, 169, 0, 0, 0] ?_)
  refine bz_run (n := n + 3) (bz_iCmpSt 82 ?_)
  refine bz_run (n := n + 2) (bz_iJl 89 5 84 ?_)
  refine bz_run (n := n + 1) (bz_iIncSt 93 2 ?_)
  refine bz_run (n := n + 0) (bz_iRet 14 169 [0, 0, 0, 0, 4068, 4074, 142, 0] ?_)
  exact h
theorem bz_r04_36 (hq : q < 65536) (h : wX_run_90 po2 n k1 k2 k3 k4 k5 k6 k7 k8 k9 (nI 76) 0 1 1 (nI 4) 0 (nI 1) k17 k18 a1 a2 a3 a4 a5 a6 a7 a8 a9 a10 a11 a12 a13 a14 a15 a16 a17 (bz_mem 2 0 (bz_cd0 250 q) [0, 0, 71, 0, 0, 0, 0, q, 4088, 132, 4088, 0, 0, 0, 169, 0, 0, 0]) (bz_rg [0, 0, 0, 0, 4094, 0, 142, 0]) a20 a21) : wX_run_90 po2 (n + 12) k1 k2 k3 k4 k5 k6 k7 k8 k9 (nI 169) 0 1 0 (nI 2) 0 (nI 0) k17 k18 a1 a2 a3 a4 a5 a6 a7 a8 a9 a10 a11 a12 a13 a14 a15 a16 a17 (bz_mem 2 2 (bz_cd0 250 q) [0, 0, 71, 0, 0, 0, 0, 0, 4088, 132, 4088, 0, 0, 0, 169, 0, 0, 0]) (bz_rg [0, 0, 0, 0, 4068, 4074, 142, 0]) a20 a21 := by
  refine bz_run (n := n + 11) (bz_iMov0 172 (q % 256) (q / 256) q [q, 0, 0, 0, 4068, 4074, 142, 0] ?_ (hl := by omega) (hh := by omega) (hw := by omega))
  refine bz_run (n := n + 10) (bz_iStBp 175 6 4074 4080 7 q [0, 0, 71, 0, 0, 0, 0, q, 4088, 132, 4088, 0, 0, 0, 169, 0, 0, 0] ?_)
  refine bz_run (n := n + 9) (bz_iMovSpBp 177 4074 [q, 0, 0, 0, 4074, 4074, 142, 0] ?_)
  refine bz_run (n := n + 8) (bz_iDecAc 181 1 ?_)
  refine bz_run (n := n + 7) (bz_iPop5 182 10 4088 [q, 0, 0, 0, 4076, 4088, 142, 0] ?_)
  refine bz_run (n := n + 6) (bz_iRetn 9 132 4 0 4 4082 [q, 0, 0, 0, 4082, 4088, 142, 0] ?_)
  refine bz_run (n := n + 5) (bz_iMovSpBp 134 4088 [q, 0, 0, 0, 4088, 4088, 142, 0] ?_)
  refine bz_run (n := n + 4) (bz_iDecAc 138 0 ?_)
  refine bz_run (n := n + 3) (bz_iPop5 139 3 0 [q, 0, 0, 0, 4090, 0, 142, 0] ?_)
  refine bz_run (n := n + 2) (bz_iRetn 2 71 2 0 2 4094 [q, 0, 0, 0, 4094, 0, 142, 0] ?_)
  refine bz_run (n := n + 1) (bz_iMov0 74 0 0 0 [0, 0, 0, 0, 4094, 0, 142, 0] ?_)
  refine bz_run (n := n + 0) (bz_iInt 76 ?_)
  exact h
theorem bz_r04 (hq : q < 65536) (h : wX_run_90 po2 n k1 k2 k3 k4 k5 k6 k7 k8 k9 (nI 76) 0 1 1 (nI 4) 0 (nI 1) k17 k18 a1 a2 a3 a4 a5 a6 a7 a8 a9 a10 a11 a12 a13 a14 a15 a16 a17 (bz_mem 2 0 (bz_cd0 250 q) [0, 0, 71, 0, 0, 0, 0, q, 4088, 132, 4088, 0, 0, 0, 169, 0, 0, 0]) (bz_rg [0, 0, 0, 0, 4094, 0, 142, 0]) a20 a21) : wX_run_90 po2 (n + 48) k1 k2 k3 k4 k5 k6 k7 k8 k9 (nI 64) 0 0 0 (nI 0) 0 (nI 0) k17 k18 a1 a2 a3 a4 a5 a6 a7 a8 a9 a10 a11 a12 a13 a14 a15 a16 a17 (bz_mem 0 0 (bz_cd0 250 q) [0, 0, 0, 0, 0, 0, 0, 0, 0, 0, 0, 0, 0, 0, 0, 0, 0, 0]) (bz_rg [0, 0, 0, 0, 4094, 0, 0, 0]) a20 a21 := by
  refine bz_r04_0 (n := n + 36) hq ?_
  refine bz_r04_12 (n := n + 24) hq ?_
  refine bz_r04_24 (n := n + 12) hq ?_
  refine bz_r04_36 (n := n + 0) hq ?_
  exact h
theorem bz_r12_0 (hq : q < 65536) (h : wX_run_90 po2 n k1 k2 k3 k4 k5 k6 k7 k8 k9 (nI 118) 1 0 0 (nI 0) 1 (nI 0) k17 k18 a1 a2 a3 a4 a5 a6 a7 a8 a9 a10 a11 a12 a13 a14 a15 a16 a17 (bz_mem 0 1 (bz_cd1 254 q) [0, 0, 71, 0, 0, 0, 0, 0, 0, 0, 0, 0, 0, 0, 0, 0, 0, 0]) (bz_rg [0, 0, 0, 0, 4082, 4088, 94, 0]) a20 a21) : wX_run_90 po2 (n + 12) k1 k2 k3 k4 k5 k6 k7 k8 k9 (nI 64) 0 0 0 (nI 0) 0 (nI 0) k17 k18 a1 a2 a3 a4 a5 a6 a7 a8 a9 a10 a11 a12 a13 a14 a15 a16 a17 (bz_mem 0 0 (bz_cd1 254 q) [0, 0, 0, 0, 0, 0, 0, 0, 0, 0, 0, 0, 0, 0, 0, 0, 0, 0]) (bz_rg [0, 0, 0, 0, 4094, 0, 0, 0]) a20 a21 := by
  refine bz_run (n := n + 11) (bz_iPush0 65 0 0 [0, 0, 0, 0, 4092, 0, 0, 0] [0, 0, 0, 0, 0, 0, 0, 0, 0, 0, 0, 0, 0, 0, 0, 0, 0, 0] ?_)
  refine bz_run (n := n + 10) (bz_iLdC 69 32 0 32 94 0 94 [0, 0, 0, 0, 4092, 0, 94, 0] ?_)
  refine bz_run (n := n + 9) (bz_iCallSi 94 1 71 [0, 0, 0, 0, 4090, 0, 94, 0] [0, 0, 71, 0, 0, 0, 0, 0, 0, 0, 0, 0, 0, 0, 0, 0, 0, 0] ?_)
  refine bz_run (n := n + 8) (bz_iPush5 95 2 0 [0, 0, 0, 0, 4088, 0, 94, 0] [0, 0, 71, 0, 0, 0, 0, 0, 0, 0, 0, 0, 0, 0, 0, 0, 0, 0] ?_)
  refine bz_run (n := n + 7) (bz_iMovBpSp 97 4088 [0, 0, 0, 0, 4088, 4088, 94, 0] ?_)
  refine bz_run (n := n + 6) (bz_iCmpAc 102 ?_)
  refine bz_run (n := n + 5) (bz_iJl 109 5 104 ?_)
  refine bz_run (n := n + 4) (bz_iIncAc 113 1 ?_)
  refine bz_run (n := n + 3) (bz_iXor 115 0 0 1 [0, 0, 0, 0, 4088, 4088, 94, 0] ?_)
  refine bz_run (n := n + 2) (bz_iPush0 116 3 0 [0, 0, 0, 0, 4086, 4088, 94, 0] [0, 0, 71, 0, 0, 0, 0, 0, 0, 0, 0, 0, 0, 0, 0, 0, 0, 0] ?_)
  refine bz_run (n := n + 1) (bz_iPush0 117 4 0 [0, 0, 0, 0, 4084, 4088, 94, 0] [0, 0, 71, 0, 0, 0, 0, 0, 0, 0, 0, 0, 0, 0, 0, 0, 0, 0] ?_)
  refine bz_run (n := n + 0) (bz_iPush0 118 5 0 [0, 0, 0, 0, 4082, 4088, 94, 0] [0, 0, 71, 0, 0, 0, 0, 0, 0, 0, 0, 0, 0, 0, 0, 0, 0, 0] ?_)
  exact h
theorem bz_r12_12 (hq : q < 65536) (h : wX_run_90 po2 n k1 k2 k3 k4 k5 k6 k7 k8 k9 (nI 156) 0 1 0 (nI 6) 1 (nI 2) k17 k18 a1 a2 a3 a4 a5 a6 a7 a8 a9 a10 a11 a12 a13 a14 a15 a16 a17 (bz_mem 1 1 (bz_cd1 254 q) [0, 0, 71, 0, 0, 0, 0, 4088, 124, 4088, 146, 0, 0, 0, 0, 0, 0, 0]) (bz_rg [124, 0, 0, 0, 4074, 4088, 156, 0]) a20 a21) : wX_run_90 po2 (n + 12) k1 k2 k3 k4 k5 k6 k7 k8 k9 (nI 118) 1 0 0 (nI 0) 1 (nI 0) k17 k18 a1 a2 a3 a4 a5 a6 a7 a8 a9 a10 a11 a12 a13 a14 a15 a16 a17 (bz_mem 0 1 (bz_cd1 254 q) [0, 0, 71, 0, 0, 0, 0, 0, 0, 0, 0, 0, 0, 0, 0, 0, 0, 0]) (bz_rg [0, 0, 0, 0, 4082, 4088, 94, 0]) a20 a21 := by
  refine bz_run (n := n + 11) (bz_iCall 76 6 121 211 255 65491 [0, 0, 0, 0, 4080, 4088, 94, 0] [0, 0, 71, 0, 0, 0, 0, 121, 0, 0, 0, 0, 0, 0, 0, 0, 0, 0] ?_)
  refine bz_run (n := n + 10) (bz_iCmpSt 82 ?_)
  refine bz_run (n := n + 9) (bz_iJl 89 5 84 ?_)
  refine bz_run (n := n + 8) (bz_iIncSt 93 1 ?_)
  refine bz_run (n := n + 7) (bz_iRet 7 121 [0, 0, 0, 0, 4082, 4088, 94, 0] ?_)
  refine bz_run (n := n + 6) (bz_iJmp 134 10 0 10 124 ?_)
  refine bz_run (n := n + 5) (bz_iPush5 135 6 4088 [0, 0, 0, 0, 4080, 4088, 94, 0] [0, 0, 71, 0, 0, 0, 0, 4088, 0, 0, 0, 0, 0, 0, 0, 0, 0, 0] ?_)
  refine bz_run (n := n + 4) (bz_iMov0 138 124 0 124 [124, 0, 0, 0, 4080, 4088, 94, 0] ?_)
  refine bz_run (n := n + 3) (bz_iPush0 139 7 124 [124, 0, 0, 0, 4078, 4088, 94, 0] [0, 0, 71, 0, 0, 0, 0, 4088, 124, 0, 0, 0, 0, 0, 0, 0, 0, 0] ?_)
  refine bz_run (n := n + 2) (bz_iPush5 140 8 4088 [124, 0, 0, 0, 4076, 4088, 94, 0] [0, 0, 71, 0, 0, 0, 0, 4088, 124, 4088, 0, 0, 0, 0, 0, 0, 0, 0] ?_)
  refine bz_run (n := n + 1) (bz_iLdC 144 34 0 34 156 0 156 [124, 0, 0, 0, 4076, 4088, 156, 0] ?_)
  refine bz_run (n := n + 0) (bz_iCallSi 156 9 146 [124, 0, 0, 0, 4074, 4088, 156, 0] [0, 0, 71, 0, 0, 0, 0, 4088, 124, 4088, 146, 0, 0, 0, 0, 0, 0, 0] ?_)
  exact h
theorem bz_r12_24 (hq : q < 65536) (h : wX_run_90 po2 n k1 k2 k3 k4 k5 k6 k7 k8 k9 (nI 89) 0 1 0 (nI 2) 0 (nI 7) k17 k18 a1 a2 a3 a4 a5 a6 a7 a8 a9 a10 a11 a12 a13 a14 a15 a16 a17 (bz_mem 1 2 (bz_cd1 254 q) [0, 0, 71, 0, 0, 0, 0, 4088, 124, 4088, 146, 4088, 0, 0, 0, 183, 0, 0]) (bz_rg [0, 0, 0, 0, 4064, 4072, 156, 0]) a20 a21) : wX_run_90 po2 (n + 12) k1 k2 k3 k4 k5 k6 k7 k8 k9 (nI 156) 0 1 0 (nI 6) 1 (nI 2) k17 k18 a1 a2 a3 a4 a5 a6 a7 a8 a9 a10 a11 a12 a13 a14 a15 a16 a17 (bz_mem 1 1 (bz_cd1 254 q) [0, 0, 71, 0, 0, 0, 0, 4088, 124, 4088, 146, 0, 0, 0, 0, 0, 0, 0]) (bz_rg [124, 0, 0, 0, 4074, 4088, 156, 0]) a20 a21 := by
  refine bz_run (n := n + 11) (bz_iPush5 157 10 4088 [124, 0, 0, 0, 4072, 4088, 156, 0] [0, 0, 71, 0, 0, 0, 0, 4088, 124, 4088, 146, 4088, 0, 0, 0, 0, 0, 0] ?_)
  refine bz_run (n := n + 10) (bz_iMovBpSp 159 4072 [124, 0, 0, 0, 4072, 4072, 156, 0] ?_)
  refine bz_run (n := n + 9) (bz_iCmpAc 164 ?_)
  refine bz_run (n := n + 8) (bz_iJl 171 5 166 ?_)
  refine bz_run (n := n + 7) (bz_iIncAc 175 2 ?_)
  refine bz_run (n := n + 6) (bz_iXor 177 124 0 1 [0, 0, 0, 0, 4072, 4072, 156, 0] ?_)
  refine bz_run (n := n + 5) (bz_iPush0 178 11 0 [0, 0, 0, 0, 4070, 4072, 156, 0] [0, 0, 71, 0, 0, 0, 0, 4088, 124, 4088, 146, 4088, 0, 0, 0, 0, 0, 0] ?_)
  refine bz_run (n := n + 4) (bz_iPush0 179 12 0 [0, 0, 0, 0, 4068, 4072, 156, 0] [0, 0, 71, 0, 0, 0, 0, 4088, 124, 4088, 146, 4088, 0, 0, 0, 0, 0, 0] ?_)
  refine bz_run (n := n + 3) (bz_iPush0 180 13 0 [0, 0, 0, 0, 4066, 4072, 156, 0] [0, 0, 71, 0, 0, 0, 0, 4088, 124, 4088, 146, 4088, 0, 0, 0, 0, 0, 0] ?_)
  refine bz_run (n := n + 2) (bz_iCall 76 14 183 149 255 65429 [0, 0, 0, 0, 4064, 4072, 156, 0] [0, 0, 71, 0, 0, 0, 0, 4088, 124, 4088, 146, 4088, 0, 0, 0, 183, 0, 0] ?_)
  refine bz_run (n := n + 1) (bz_iCmpSt 82 ?_)
  refine bz_run (n := n + 0) (bz_iJl 89 5 84 ?_)
  exact h
theorem bz_r12_36 (hq : q < 65536) (h : wX_run_90 po2 n k1 k2 k3 k4 k5 k6 k7 k8 k9 (nI 197) 0 1 0 (nI 4080) 0 (nI 5) k17 k18 a1 a2 a3 a4 a5 a6 a7 a8 a9 a10 a11 a12 a13 a14 a15 a16 a17 (bz_mem 3 2 (bz_cd1 254 q) [0, 0, 71, 0, 0, 0, 0, 4088, 124, 4088, 146, 4088, 0, 0, 0, q, 4072, 0]) (bz_rg [q, 0, 0, 0, 4062, 4088, 124, 0]) a20 a21) : wX_run_90 po2 (n + 12) k1 k2 k3 k4 k5 k6 k7 k8 k9 (nI 89) 0 1 0 (nI 2) 0 (nI 7) k17 k18 a1 a2 a3 a4 a5 a6 a7 a8 a9 a10 a11 a12 a13 a14 a15 a16 a17 (bz_mem 1 2 (bz_cd1 254 q) [0, 0, 71, 0, 0, 0, 0, 4088, 124, 4088, 146, 4088, 0, 0, 0, 183, 0, 0]) (bz_rg [0, 0, 0, 0, 4064, 4072, 156, 0]) a20 a21 := by
  refine bz_run (n := n + 11) (bz_iIncSt 93 2 ?_)
  refine bz_run (n := n + 10) (bz_iRet 15 183 [0, 0, 0, 0, 4066, 4072, 156, 0] ?_)
  refine bz_run (n := n + 9) (bz_iMov0 186 (q % 256) (q / 256) q [q, 0, 0, 0, 4066, 4072, 156, 0] ?_ (hl := by omega) (hh := by omega) (hw := by omega))
  refine bz_run (n := n + 8) (bz_iPush0 187 14 q [q, 0, 0, 0, 4064, 4072, 156, 0] [0, 0, 71, 0, 0, 0, 0, 4088, 124, 4088, 146, 4088, 0, 0, 0, q, 0, 0] ?_)
  refine bz_run (n := n + 7) (bz_iCall 76 15 190 142 255 65422 [q, 0, 0, 0, 4062, 4072, 156, 0] [0, 0, 71, 0, 0, 0, 0, 4088, 124, 4088, 146, 4088, 0, 0, 0, q, 190, 0] ?_)
  refine bz_run (n := n + 6) (bz_iCmpSt 82 ?_)
  refine bz_run (n := n + 5) (bz_iJl 89 5 84 ?_)
  refine bz_run (n := n + 4) (bz_iIncSt 93 3 ?_)
  refine bz_run (n := n + 3) (bz_iRet 16 190 [q, 0, 0, 0, 4064, 4072, 156, 0] ?_)
  refine bz_run (n := n + 2) (bz_iLd6 193 6 4072 4078 8 124 [q, 0, 0, 0, 4064, 4072, 124, 0] ?_)
  refine bz_run (n := n + 1) (bz_iPush5 194 15 4072 [q, 0, 0, 0, 4062, 4072, 124, 0] [0, 0, 71, 0, 0, 0, 0, 4088, 124, 4088, 146, 4088, 0, 0, 0, q, 4072, 0] ?_)
  refine bz_run (n := n + 0) (bz_iLd5 197 8 4072 4080 7 4088 [q, 0, 0, 0, 4062, 4088, 124, 0] ?_)
  exact h
theorem bz_r12_48 (hq : q < 65536) (h : wX_run_90 po2 n k1 k2 k3 k4 k5 k6 k7 k8 k9 (nI 213) 0 0 0 (nI 4) 0 (nI 1) k17 k18 a1 a2 a3 a4 a5 a6 a7 a8 a9 a10 a11 a12 a13 a14 a15 a16 a17 (bz_mem 3 1 (bz_cd1 254 q) [0, 0, 71, 0, q, 0, 0, 4088, 124, 4088, 146, 4088, 0, 0, 0, q, 4072, 202]) (bz_rg [q, 1, 0, 4086, 4074, 4088, 124, 0]) a20 a21) : wX_run_90 po2 (n + 12) k1 k2 k3 k4 k5 k6 k7 k8 k9 (nI 197) 0 1 0 (nI 4080) 0 (nI 5) k17 k18 a1 a2 a3 a4 a5 a6 a7 a8 a9 a10 a11 a12 a13 a14 a15 a16 a17 (bz_mem 3 2 (bz_cd1 254 q) [0, 0, 71, 0, 0, 0, 0, 4088, 124, 4088, 146, 4088, 0, 0, 0, q, 4072, 0]) (bz_rg [q, 0, 0, 0, 4062, 4088, 124, 0]) a20 a21 := by
  refine bz_run (n := n + 11) (bz_iMov1 200 1 0 1 [q, 1, 0, 0, 4062, 4088, 124, 0] ?_)
  refine bz_run (n := n + 10) (bz_iCallSi 124 16 202 [q, 1, 0, 0, 4060, 4088, 124, 0] [0, 0, 71, 0, 0, 0, 0, 4088, 124, 4088, 146, 4088, 0, 0, 0, q, 4072, 202] ?_)
  refine bz_run (n := n + 9) (bz_iLea 127 254 4088 4086 [q, 1, 0, 4086, 4060, 4088, 124, 0] ?_)
  refine bz_run (n := n + 8) (bz_iOr 129 1 1 0 [q, 1, 0, 4086, 4060, 4088, 124, 0] ?_)
  refine bz_run (n := n + 7) (bz_iJnz 133 2 131 ?_)
  refine bz_run (n := n + 6) (bz_iRet 17 202 [q, 1, 0, 4086, 4062, 4088, 124, 0] ?_)
  refine bz_run (n := n + 5) (bz_iPop5 203 16 4072 [q, 1, 0, 4086, 4064, 4072, 124, 0] ?_)
  refine bz_run (n := n + 4) (bz_iPop0 204 15 q [q, 1, 0, 4086, 4066, 4072, 124, 0] ?_ (hw' := hq))
  refine bz_run (n := n + 3) (bz_iStBx 206 4086 4 q [0, 0, 71, 0, q, 0, 0, 4088, 124, 4088, 146, 4088, 0, 0, 0, q, 4072, 202] ?_)
  refine bz_run (n := n + 2) (bz_iMovSpBp 208 4072 [q, 1, 0, 4086, 4072, 4072, 124, 0] ?_)
  refine bz_run (n := n + 1) (bz_iDecAc 212 1 ?_)
  refine bz_run (n := n + 0) (bz_iPop5 213 11 4088 [q, 1, 0, 4086, 4074, 4088, 124, 0] ?_)
  exact h
theorem bz_r12_60 (hq : q < 65536) (h : wX_run_90 po2 n k1 k2 k3 k4 k5 k6 k7 k8 k9 (nI 76) 0 0 1 (nI 4) 0 (nI 1) k17 k18 a1 a2 a3 a4 a5 a6 a7 a8 a9 a10 a11 a12 a13 a14 a15 a16 a17 (bz_mem 3 0 (bz_cd1 254 q) [0, 0, 71, 0, q, 0, 0, 4088, 124, 4088, 146, 4088, 0, 0, 0, q, 4072, 202]) (bz_rg [0, 1, 0, 4086, 4094, 0, 124, 0]) a20 a21) : wX_run_90 po2 (n + 7) k1 k2 k3 k4 k5 k6 k7 k8 k9 (nI 213) 0 0 0 (nI 4) 0 (nI 1) k17 k18 a1 a2 a3 a4 a5 a6 a7 a8 a9 a10 a11 a12 a13 a14 a15 a16 a17 (bz_mem 3 1 (bz_cd1 254 q) [0, 0, 71, 0, q, 0, 0, 4088, 124, 4088, 146, 4088, 0, 0, 0, q, 4072, 202]) (bz_rg [q, 1, 0, 4086, 4074, 4088, 124, 0]) a20 a21 := by
  refine bz_run (n := n + 6) (bz_iRetn 10 146 6 0 6 4082 [q, 1, 0, 4086, 4082, 4088, 124, 0] ?_)
  refine bz_run (n := n + 5) (bz_iMovSpBp 148 4088 [q, 1, 0, 4086, 4088, 4088, 124, 0] ?_)
  refine bz_run (n := n + 4) (bz_iDecAc 152 0 ?_)
  refine bz_run (n := n + 3) (bz_iPop5 153 3 0 [q, 1, 0, 4086, 4090, 0, 124, 0] ?_)
  refine bz_run (n := n + 2) (bz_iRetn 2 71 2 0 2 4094 [q, 1, 0, 4086, 4094, 0, 124, 0] ?_)
  refine bz_run (n := n + 1) (bz_iMov0 74 0 0 0 [0, 1, 0, 4086, 4094, 0, 124, 0] ?_)
  refine bz_run (n := n + 0) (bz_iInt 76 ?_)
  exact h
theorem bz_r12 (hq : q < 65536) (h : wX_run_90 po2 n k1 k2 k3 k4 k5 k6 k7 k8 k9 (nI 76) 0 0 1 (nI 4) 0 (nI 1) k17 k18 a1 a2 a3 a4 a5 a6 a7 a8 a9 a10 a11 a12 a13 a14 a15 a16 a17 (bz_mem 3 0 (bz_cd1 254 q) [0, 0, 71, 0, q, 0, 0, 4088, 124, 4088, 146, 4088, 0, 0, 0, q, 4072, 202]) (bz_rg [0, 1, 0, 4086, 4094, 0, 124, 0]) a20 a21) : wX_run_90 po2 (n + 67) k1 k2 k3 k4 k5 k6 k7 k8 k9 (nI 64) 0 0 0 (nI 0) 0 (nI 0) k17 k18 a1 a2 a3 a4 a5 a6 a7 a8 a9 a10 a11 a12 a13 a14 a15 a16 a17 (bz_mem 0 0 (bz_cd1 254 q) [0, 0, 0, 0, 0, 0, 0, 0, 0, 0, 0, 0, 0, 0, 0, 0, 0, 0]) (bz_rg [0, 0, 0, 0, 4094, 0, 0, 0]) a20 a21 := by
  refine bz_r12_0 (n := n + 55) hq ?_
  refine bz_r12_12 (n := n + 43) hq ?_
  refine bz_r12_24 (n := n + 31) hq ?_
  refine bz_r12_36 (n := n + 19) hq ?_
  refine bz_r12_48 (n := n + 7) hq ?_
  refine bz_r12_60 (n := n + 0) hq ?_
  exact h
theorem bz_r13_0 (hq : q < 65536) (h : wX_run_90 po2 n k1 k2 k3 k4 k5 k6 k7 k8 k9 (nI 118) 1 0 0 (nI 0) 1 (nI 0) k17 k18 a1 a2 a3 a4 a5 a6 a7 a8 a9 a10 a11 a12 a13 a14 a15 a16 a17 (bz_mem 0 1 (bz_cd1 252 q) [0, 0, 71, 0, 0, 0, 0, 0, 0, 0, 0, 0, 0, 0, 0, 0, 0, 0]) (bz_rg [0, 0, 0, 0, 4082, 4088, 94, 0]) a20 a21) : wX_run_90 po2 (n + 12) k1 k2 k3 k4 k5 k6 k7 k8 k9 (nI 64) 0 0 0 (nI 0) 0 (nI 0) k17 k18 a1 a2 a3 a4 a5 a6 a7 a8 a9 a10 a11 a12 a13 a14 a15 a16 a17 (bz_mem 0 0 (bz_cd1 252 q) [0, 0, 0, 0, 0, 0, 0, 0, 0, 0, 0, 0, 0, 0, 0, 0, 0, 0]) (bz_rg [0, 0, 0, 0, 4094, 0, 0, 0]) a20 a21 := by
  refine bz_run (n := n + 11) (bz_iPush0 65 0 0 [0, 0, 0, 0, 4092, 0, 0, 0] [0, 0, 0, 0, 0, 0, 0, 0, 0, 0, 0, 0, 0, 0, 0, 0, 0, 0] ?_)
  refine bz_run (n := n + 10) (bz_iLdC 69 32 0 32 94 0 94 [0, 0, 0, 0, 4092, 0, 94, 0] ?_)
  refine bz_run (n := n + 9) (bz_iCallSi 94 1 71 [0, 0, 0, 0, 4090, 0, 94, 0] [0, 0, 71, 0, 0, 0, 0, 0, 0, 0, 0, 0, 0, 0, 0, 0, 0, 0] ?_)
  refine bz_run (n := n + 8) (bz_iPush5 95 2 0 [0, 0, 0, 0, 4088, 0, 94, 0] [0, 0, 71, 0, 0, 0, 0, 0, 0, 0, 0, 0, 0, 0, 0, 0, 0, 0] ?_)
  refine bz_run (n := n + 7) (bz_iMovBpSp 97 4088 [0, 0, 0, 0, 4088, 4088, 94, 0] ?_)
  refine bz_run (n := n + 6) (bz_iCmpAc 102 ?_)
  refine bz_run (n := n + 5) (bz_iJl 109 5 104 ?_)
  refine bz_run (n := n + 4) (bz_iIncAc 113 1 ?_)
  refine bz_run (n := n + 3) (bz_iXor 115 0 0 1 [0, 0, 0, 0, 4088, 4088, 94, 0] ?_)
  refine bz_run (n := n + 2) (bz_iPush0 116 3 0 [0, 0, 0, 0, 4086, 4088, 94, 0] [0, 0, 71, 0, 0, 0, 0, 0, 0, 0, 0, 0, 0, 0, 0, 0, 0, 0] ?_)
  refine bz_run (n := n + 1) (bz_iPush0 117 4 0 [0, 0, 0, 0, 4084, 4088, 94, 0] [0, 0, 71, 0, 0, 0, 0, 0, 0, 0, 0, 0, 0, 0, 0, 0, 0, 0] ?_)
  refine bz_run (n := n + 0) (bz_iPush0 118 5 0 [0, 0, 0, 0, 4082, 4088, 94, 0] [0, 0, 71, 0, 0, 0, 0, 0, 0, 0, 0, 0, 0, 0, 0, 0, 0, 0] ?_)
  exact h
theorem bz_r13_12 (hq : q < 65536) (h : wX_run_90 po2 n k1 k2 k3 k4 k5 k6 k7 k8 k9 (nI 156) 0 1 0 (nI 6) 1 (nI 2) k17 k18 a1 a2 a3 a4 a5 a6 a7 a8 a9 a10 a11 a12 a13 a14 a15 a16 a17 (bz_mem 1 1 (bz_cd1 252 q) [0, 0, 71, 0, 0, 0, 0, 4088, 124, 4088, 146, 0, 0, 0, 0, 0, 0, 0]) (bz_rg [124, 0, 0, 0, 4074, 4088, 156, 0]) a20 a21) : wX_run_90 po2 (n + 12) k1 k2 k3 k4 k5 k6 k7 k8 k9 (nI 118) 1 0 0 (nI 0) 1 (nI 0) k17 k18 a1 a2 a3 a4 a5 a6 a7 a8 a9 a10 a11 a12 a13 a14 a15 a16 a17 (bz_mem 0 1 (bz_cd1 252 q) [0, 0, 71, 0, 0, 0, 0, 0, 0, 0, 0, 0, 0, 0, 0, 0, 0, 0]) (bz_rg [0, 0, 0, 0, 4082, 4088, 94, 0]) a20 a21 := by
  refine bz_run (n := n + 11) (bz_iCall 76 6 121 211 255 65491 [0, 0, 0, 0, 4080, 4088, 94, 0] [0, 0, 71, 0, 0, 0, 0, 121, 0, 0, 0, 0, 0, 0, 0, 0, 0, 0] ?_)
  refine bz_run (n := n + 10) (bz_iCmpSt 82 ?_)
  refine bz_run (n := n + 9) (bz_iJl 89 5 84 ?_)
  refine bz_run (n := n + 8) (bz_iIncSt 93 1 ?_)
  refine bz_run (n := n + 7) (bz_iRet 7 121 [0, 0, 0, 0, 4082, 4088, 94, 0] ?_)
  refine bz_run (n := n + 6) (bz_iJmp 134 10 0 10 124 ?_)
  refine bz_run (n := n + 5) (bz_iPush5 135 6 4088 [0, 0, 0, 0, 4080, 4088, 94, 0] [0, 0, 71, 0, 0, 0, 0, 4088, 0, 0, 0, 0, 0, 0, 0, 0, 0, 0] ?_)
  refine bz_run (n := n + 4) (bz_iMov0 138 124 0 124 [124, 0, 0, 0, 4080, 4088, 94, 0] ?_)
  refine bz_run (n := n + 3) (bz_iPush0 139 7 124 [124, 0, 0, 0, 4078, 4088, 94, 0] [0, 0, 71, 0, 0, 0, 0, 4088, 124, 0, 0, 0, 0, 0, 0, 0, 0, 0] ?_)
  refine bz_run (n := n + 2) (bz_iPush5 140 8 4088 [124, 0, 0, 0, 4076, 4088, 94, 0] [0, 0, 71, 0, 0, 0, 0, 4088, 124, 4088, 0, 0, 0, 0, 0, 0, 0, 0] ?_)
  refine bz_run (n := n + 1) (bz_iLdC 144 34 0 34 156 0 156 [124, 0, 0, 0, 4076, 4088, 156, 0] ?_)
  refine bz_run (n := n + 0) (bz_iCallSi 156 9 146 [124, 0, 0, 0, 4074, 4088, 156, 0] [0, 0, 71, 0, 0, 0, 0, 4088, 124, 4088, 146, 0, 0, 0, 0, 0, 0, 0] ?_)
  exact h
theorem bz_r13_24 (hq : q < 65536) (h : wX_run_90 po2 n k1 k2 k3 k4 k5 k6 k7 k8 k9 (nI 89) 0 1 0 (nI 2) 0 (nI 7) k17 k18 a1 a2 a3 a4 a5 a6 a7 a8 a9 a10 a11 a12 a13 a14 a15 a16 a17 (bz_mem 1 2 (bz_cd1 252 q) [0, 0, 71, 0, 0, 0, 0, 4088, 124, 4088, 146, 4088, 0, 0, 0, 183, 0, 0]) (bz_rg [0, 0, 0, 0, 4064, 4072, 156, 0]) a20 a21) : wX_run_90 po2 (n + 12) k1 k2 k3 k4 k5 k6 k7 k8 k9 (nI 156) 0 1 0 (nI 6) 1 (nI 2) k17 k18 a1 a2 a3 a4 a5 a6 a7 a8 a9 a10 a11 a12 a13 a14 a15 a16 a17 (bz_mem 1 1 (bz_cd1 252 q) [0, 0, 71, 0, 0, 0, 0, 4088, 124, 4088, 146, 0, 0, 0, 0, 0, 0, 0]) (bz_rg [124, 0, 0, 0, 4074, 4088, 156, 0]) a20 a21 := by
  refine bz_run (n := n + 11) (bz_iPush5 157 10 4088 [124, 0, 0, 0, 4072, 4088, 156, 0] [0, 0, 71, 0, 0, 0, 0, 4088, 124, 4088, 146, 4088, 0, 0, 0, 0, 0, 0] ?_)
  refine bz_run (n := n + 10) (bz_iMovBpSp 159 4072 [124, 0, 0, 0, 4072, 4072, 156, 0] ?_)
  refine bz_run (n := n + 9) (bz_iCmpAc 164 ?_)
  refine bz_run (n := n + 8) (bz_iJl 171 5 166 ?_)
  refine bz_run (n := n + 7) (bz_iIncAc 175 2 ?_)
  refine bz_run (n := n + 6) (bz_iXor 177 124 0 1 [0, 0, 0, 0, 4072, 4072, 156, 0] ?_)
  refine bz_run (n := n + 5) (bz_iPush0 178 11 0 [0, 0, 0, 0, 4070, 4072, 156, 0] [0, 0, 71, 0, 0, 0, 0, 4088, 124, 4088, 146, 4088, 0, 0, 0, 0, 0, 0] ?_)
  refine bz_run (n := n + 4) (bz_iPush0 179 12 0 [0, 0, 0, 0, 4068, 4072, 156, 0] [0, 0, 71, 0, 0, 0, 0, 4088, 124, 4088, 146, 4088, 0, 0, 0, 0, 0, 0] ?_)
  refine bz_run (n := n + 3) (bz_iPush0 180 13 0 [0, 0, 0, 0, 4066, 4072, 156, 0] [0, 0, 71, 0, 0, 0, 0, 4088, 124, 4088, 146, 4088, 0, 0, 0, 0, 0, 0] ?_)
  refine bz_run (n := n + 2) (bz_iCall 76 14 183 149 255 65429 [0, 0, 0, 0, 4064, 4072, 156, 0] [0, 0, 71, 0, 0, 0, 0, 4088, 124, 4088, 146, 4088, 0, 0, 0, 183, 0, 0] ?_)
  refine bz_run (n := n + 1) (bz_iCmpSt 82 ?_)
  refine bz_run (n := n + 0) (bz_iJl 89 5 84 ?_)
  exact h
theorem bz_r13_36 (hq : q < 65536) (h : wX_run_90 po2 n k1 k2 k3 k4 k5 k6 k7 k8 k9 (nI 197) 0 1 0 (nI 4080) 0 (nI 5) k17 k18 a1 a2 a3 a4 a5 a6 a7 a8 a9 a10 a11 a12 a13 a14 a15 a16 a17 (bz_mem 3 2 (bz_cd1 252 q) [0, 0, 71, 0, 0, 0, 0, 4088, 124, 4088, 146, 4088, 0, 0, 0, q, 4072, 0]) (bz_rg [q, 0, 0, 0, 4062, 4088, 124, 0]) a20 a21) : wX_run_90 po2 (n + 12) k1 k2 k3 k4 k5 k6 k7 k8 k9 (nI 89) 0 1 0 (nI 2) 0 (nI 7) k17 k18 a1 a2 a3 a4 a5 a6 a7 a8 a9 a10 a11 a12 a13 a14 a15 a16 a17 (bz_mem 1 2 (bz_cd1 252 q) [0, 0, 71, 0, 0, 0, 0, 4088, 124, 4088, 146, 4088, 0, 0, 0, 183, 0, 0]) (bz_rg [0, 0, 0, 0, 4064, 4072, 156, 0]) a20 a21 := by
  refine bz_run (n := n + 11) (bz_iIncSt 93 2 ?_)
  refine bz_run (n := n + 10) (bz_iRet 15 183 [0, 0, 0, 0, 4066, 4072, 156, 0] ?_)
  refine bz_run (n := n + 9) (bz_iMov0 186 (q % 256) (q / 256) q [q, 0, 0, 0, 4066, 4072, 156, 0] ?_ (hl := by omega) (hh := by omega) (hw := by omega))
  refine bz_run (n := n + 8) (bz_iPush0 187 14 q [q, 0, 0, 0, 4064, 4072, 156, 0] [0, 0, 71, 0, 0, 0, 0, 4088, 124, 4088, 146, 4088, 0, 0, 0, q, 0, 0] ?_)
  refine bz_run (n := n + 7) (bz_iCall 76 15 190 142 255 65422 [q, 0, 0, 0, 4062, 4072, 156, 0] [0, 0, 71, 0, 0, 0, 0, 4088, 124, 4088, 146, 4088, 0, 0, 0, q, 190, 0] ?_)
  refine bz_run (n := n + 6) (bz_iCmpSt 82 ?_)
  refine bz_run (n := n + 5) (bz_iJl 89 5 84 ?_)
  refine bz_run (n := n + 4) (bz_iIncSt 93 3 ?_)
  refine bz_run (n := n + 3) (bz_iRet 16 190 [q, 0, 0, 0, 4064, 4072, 156, 0] ?_)
  refine bz_run (n := n + 2) (bz_iLd6 193 6 4072 4078 8 124 [q, 0, 0, 0, 4064, 4072, 124, 0] ?_)
  refine bz_run (n := n + 1) (bz_iPush5 194 15 4072 [q, 0, 0, 0, 4062, 4072, 124, 0] [0, 0, 71, 0, 0, 0, 0, 4088, 124, 4088, 146, 4088, 0, 0, 0, q, 4072, 0] ?_)
  refine bz_run (n := n + 0) (bz_iLd5 197 8 4072 4080 7 4088 [q, 0, 0, 0, 4062, 4088, 124, 0] ?_)
  exact h
theorem bz_r13_48 (hq : q < 65536) (h : wX_run_90 po2 n k1 k2 k3 k4 k5 k6 k7 k8 k9 (nI 213) 0 0 0 (nI 4) 0 (nI 1) k17 k18 a1 a2 a3 a4 a5 a6 a7 a8 a9 a10 a11 a12 a13 a14 a15 a16 a17 (bz_mem 3 1 (bz_cd1 252 q) [0, 0, 71, 0, 0, q, 0, 4088, 124, 4088, 146, 4088, 0, 0, 0, q, 4072, 202]) (bz_rg [q, 1, 0, 4084, 4074, 4088, 124, 0]) a20 a21) : wX_run_90 po2 (n + 12) k1 k2 k3 k4 k5 k6 k7 k8 k9 (nI 197) 0 1 0 (nI 4080) 0 (nI 5) k17 k18 a1 a2 a3 a4 a5 a6 a7 a8 a9 a10 a11 a12 a13 a14 a15 a16 a17 (bz_mem 3 2 (bz_cd1 252 q) [0, 0, 71, 0, 0, 0, 0, 4088, 124, 4088, 146, 4088, 0, 0, 0, q, 4072, 0]) (bz_rg [q, 0, 0, 0, 4062, 4088, 124, 0]) a20 a21 := by
  refine bz_run (n := n + 11) (bz_iMov1 200 1 0 1 [q, 1, 0, 0, 4062, 4088, 124, 0] ?_)
  refine bz_run (n := n + 10) (bz_iCallSi 124 16 202 [q, 1, 0, 0, 4060, 4088, 124, 0] [0, 0, 71, 0, 0, 0, 0, 4088, 124, 4088, 146, 4088, 0, 0, 0, q, 4072, 202] ?_)
  refine bz_run (n := n + 9) (bz_iLea 127 252 4088 4084 [q, 1, 0, 4084, 4060, 4088, 124, 0] ?_)
  refine bz_run (n := n + 8) (bz_iOr 129 1 1 0 [q, 1, 0, 4084, 4060, 4088, 124, 0] ?_)
  refine bz_run (n := n + 7) (bz_iJnz 133 2 131 ?_)
  refine bz_run (n := n + 6) (bz_iRet 17 202 [q, 1, 0, 4084, 4062, 4088, 124, 0] ?_)
  refine bz_run (n := n + 5) (bz_iPop5 203 16 4072 [q, 1, 0, 4084, 4064, 4072, 124, 0] ?_)
  refine bz_run (n := n + 4) (bz_iPop0 204 15 q [q, 1, 0, 4084, 4066, 4072, 124, 0] ?_ (hw' := hq))
  refine bz_run (n := n + 3) (bz_iStBx 206 4084 5 q [0, 0, 71, 0, 0, q, 0, 4088, 124, 4088, 146, 4088, 0, 0, 0, q, 4072, 202] ?_)
  refine bz_run (n := n + 2) (bz_iMovSpBp 208 4072 [q, 1, 0, 4084, 4072, 4072, 124, 0] ?_)
  refine bz_run (n := n + 1) (bz_iDecAc 212 1 ?_)
  refine bz_run (n := n + 0) (bz_iPop5 213 11 4088 [q, 1, 0, 4084, 4074, 4088, 124, 0] ?_)
  exact h
theorem bz_r13_60 (hq : q < 65536) (h : wX_run_90 po2 n k1 k2 k3 k4 k5 k6 k7 k8 k9 (nI 76) 0 0 1 (nI 4) 0 (nI 1) k17 k18 a1 a2 a3 a4 a5 a6 a7 a8 a9 a10 a11 a12 a13 a14 a15 a16 a17 (bz_mem 3 0 (bz_cd1 252 q) [0, 0, 71, 0, 0, q, 0, 4088, 124, 4088, 146, 4088, 0, 0, 0, q, 4072, 202]) (bz_rg [0, 1, 0, 4084, 4094, 0, 124, 0]) a20 a21) : wX_run_90 po2 (n + 7) k1 k2 k3 k4 k5 k6 k7 k8 k9 (nI 213) 0 0 0 (nI 4) 0 (nI 1) k17 k18 a1 a2 a3 a4 a5 a6 a7 a8 a9 a10 a11 a12 a13 a14 a15 a16 a17 (bz_mem 3 1 (bz_cd1 252 q) [0, 0, 71, 0, 0, q, 0, 4088, 124, 4088, 146, 4088, 0, 0, 0, q, 4072, 202]) (bz_rg [q, 1, 0, 4084, 4074, 4088, 124, 0]) a20 a21 := by
  refine bz_run (n := n + 6) (bz_iRetn 10 146 6 0 6 4082 [q, 1, 0, 4084, 4082, 4088, 124, 0] ?_)
  refine bz_run (n := n + 5) (bz_iMovSpBp 148 4088 [q, 1, 0, 4084, 4088, 4088, 124, 0] ?_)
  refine bz_run (n := n + 4) (bz_iDecAc 152 0 ?_)
  refine bz_run (n := n + 3) (bz_iPop5 153 3 0 [q, 1, 0, 4084, 4090, 0, 124, 0] ?_)
  refine bz_run (n := n + 2) (bz_iRetn 2 71 2 0 2 4094 [q, 1, 0, 4084, 4094, 0, 124, 0] ?_)
  refine bz_run (n := n + 1) (bz_iMov0 74 0 0 0 [0, 1, 0, 4084, 4094, 0, 124, 0] ?_)
  refine bz_run (n := n + 0) (bz_iInt 76 ?_)
  exact h
theorem bz_r13 (hq : q < 65536) (h : wX_run_90 po2 n k1 k2 k3 k4 k5 k6 k7 k8 k9 (nI 76) 0 0 1 (nI 4) 0 (nI 1) k17 k18 a1 a2 a3 a4 a5 a6 a7 a8 a9 a10 a11 a12 a13 a14 a15 a16 a17 (bz_mem 3 0 (bz_cd1 252 q) [0, 0, 71, 0, 0, q, 0, 4088, 124, 4088, 146, 4088, 0, 0, 0, q, 4072, 202]) (bz_rg [0, 1, 0, 4084, 4094, 0, 124, 0]) a20 a21) : wX_run_90 po2 (n + 67) k1 k2 k3 k4 k5 k6 k7 k8 k9 (nI 64) 0 0 0 (nI 0) 0 (nI 0) k17 k18 a1 a2 a3 a4 a5 a6 a7 a8 a9 a10 a11 a12 a13 a14 a15 a16 a17 (bz_mem 0 0 (bz_cd1 252 q) [0, 0, 0, 0, 0, 0, 0, 0, 0, 0, 0, 0, 0, 0, 0, 0, 0, 0]) (bz_rg [0, 0, 0, 0, 4094, 0, 0, 0]) a20 a21 := by
  refine bz_r13_0 (n := n + 55) hq ?_
  refine bz_r13_12 (n := n + 43) hq ?_
  refine bz_r13_24 (n := n + 31) hq ?_
  refine bz_r13_36 (n := n + 19) hq ?_
  refine bz_r13_48 (n := n + 7) hq ?_
  refine bz_r13_60 (n := n + 0) hq ?_
  exact h
theorem bz_r14_0 (hq : q < 65536) (h : wX_run_90 po2 n k1 k2 k3 k4 k5 k6 k7 k8 k9 (nI 118) 1 0 0 (nI 0) 1 (nI 0) k17 k18 a1 a2 a3 a4 a5 a6 a7 a8 a9 a10 a11 a12 a13 a14 a15 a16 a17 (bz_mem 0 1 (bz_cd1 250 q) [0, 0, 71, 0, 0, 0, 0, 0, 0, 0, 0, 0, 0, 0, 0, 0, 0, 0]) (bz_rg [0, 0, 0, 0, 4082, 4088, 94, 0]) a20 a21) : wX_run_90 po2 (n + 12) k1 k2 k3 k4 k5 k6 k7 k8 k9 (nI 64) 0 0 0 (nI 0) 0 (nI 0) k17 k18 a1 a2 a3 a4 a5 a6 a7 a8 a9 a10 a11 a12 a13 a14 a15 a16 a17 (bz_mem 0 0 (bz_cd1 250 q) [0, 0, 0, 0, 0, 0, 0, 0, 0, 0, 0, 0, 0, 0, 0, 0, 0, 0]) (bz_rg [0, 0, 0, 0, 4094, 0, 0, 0]) a20 a21 := by
  refine bz_run (n := n + 11) (bz_iPush0 65 0 0 [0, 0, 0, 0, 4092, 0, 0, 0] [0, 0, 0, 0, 0, 0, 0, 0, 0, 0, 0, 0, 0, 0, 0, 0, 0, 0] ?_)
  refine bz_run (n := n + 10) (bz_iLdC 69 32 0 32 94 0 94 [0, 0, 0, 0, 4092, 0, 94, 0] ?_)
  refine bz_run (n := n + 9) (bz_iCallSi 94 1 71 [0, 0, 0, 0, 4090, 0, 94, 0] [0, 0, 71, 0, 0, 0, 0, 0, 0, 0, 0, 0, 0, 0, 0, 0, 0, 0] ?_)
  refine bz_run (n := n + 8) (bz_iPush5 95 2 0 [0, 0, 0, 0, 4088, 0, 94, 0] [0, 0, 71, 0, 0, 0, 0, 0, 0, 0, 0, 0, 0, 0, 0, 0, 0, 0] ?_)
  refine bz_run (n := n + 7) (bz_iMovBpSp 97 4088 [0, 0, 0, 0, 4088, 4088, 94, 0] ?_)
  refine bz_run (n := n + 6) (bz_iCmpAc 102 ?_)
  refine bz_run (n := n + 5) (bz_iJl 109 5 104 ?_)
  refine bz_run (n := n + 4) (bz_iIncAc 113 1 ?_)
  refine bz_run (n := n + 3) (bz_iXor 115 0 0 1 [0, 0, 0, 0, 4088, 4088, 94, 0] ?_)
  refine bz_run (n := n + 2) (bz_iPush0 116 3 0 [0, 0, 0, 0, 4086, 4088, 94, 0] [0, 0, 71, 0, 0, 0, 0, 0, 0, 0, 0, 0, 0, 0, 0, 0, 0, 0] ?_)
  refine bz_run (n := n + 1) (bz_iPush0 117 4 0 [0, 0, 0, 0, 4084, 4088, 94, 0] [0, 0, 71, 0, 0, 0, 0, 0, 0, 0, 0, 0, 0, 0, 0, 0, 0, 0] ?_)
  refine bz_run (n := n + 0) (bz_iPush0 118 5 0 [0, 0, 0, 0, 4082, 4088, 94, 0] [0, 0, 71, 0, 0, 0, 0, 0, 0, 0, 0, 0, 0, 0, 0, 0, 0, 0] ?_)
  exact h
theorem bz_r14_12 (hq : q < 65536) (h : wX_run_90 po2 n k1 k2 k3 k4 k5 k6 k7 k8 k9 (nI 156) 0 1 0 (nI 6) 1 (nI 2) k17 k18 a1 a2 a3 a4 a5 a6 a7 a8 a9 a10 a11 a12 a13 a14 a15 a16 a17 (bz_mem 1 1 (bz_cd1 250 q) [0, 0, 71, 0, 0, 0, 0, 4088, 124, 4088, 146, 0, 0, 0, 0, 0, 0, 0]) (bz_rg [124, 0, 0, 0, 4074, 4088, 156, 0]) a20 a21) : wX_run_90 po2 (n + 12) k1 k2 k3 k4 k5 k6 k7 k8 k9 (nI 118) 1 0 0 (nI 0) 1 (nI 0) k17 k18 a1 a2 a3 a4 a5 a6 a7 a8 a9 a10 a11 a12 a13 a14 a15 a16 a17 (bz_mem 0 1 (bz_cd1 250 q) [0, 0, 71, 0, 0, 0, 0, 0, 0, 0, 0, 0, 0, 0, 0, 0, 0, 0]) (bz_rg [0, 0, 0, 0, 4082, 4088, 94, 0]) a20 a21 := by
  refine bz_run (n := n + 11) (bz_iCall 76 6 121 211 255 65491 [0, 0, 0, 0, 4080, 4088, 94, 0] [0, 0, 71, 0, 0, 0, 0, 121, 0, 0, 0, 0, 0, 0, 0, 0, 0, 0] ?_)
  refine bz_run (n := n + 10) (bz_iCmpSt 82 ?_)
  refine bz_run (n := n + 9) (bz_iJl 89 5 84 ?_)
  refine bz_run (n := n + 8) (bz_iIncSt 93 1 ?_)
  refine bz_run (n := n + 7) (bz_iRet 7 121 [0, 0, 0, 0, 4082, 4088, 94, 0] ?_)
  refine bz_run (n := n + 6) (bz_iJmp 134 10 0 10 124 ?_)
  refine bz_run (n := n + 5) (bz_iPush5 135 6 4088 [0, 0, 0, 0, 4080, 4088, 94, 0] [0, 0, 71, 0, 0, 0, 0, 4088, 0, 0, 0, 0, 0, 0, 0, 0, 0, 0] ?_)
  refine bz_run (n := n + 4) (bz_iMov0 138 124 0 124 [124, 0, 0, 0, 4080, 4088, 94, 0] ?_)
  refine bz_run (n := n + 3) (bz_iPush0 139 7 124 [124, 0, 0, 0, 4078, 4088, 94, 0] [0, 0, 71, 0, 0, 0, 0, 4088, 124, 0, 0, 0, 0, 0, 0, 0, 0, 0] ?_)
  refine bz_run (n := n + 2) (bz_iPush5 140 8 4088 [124, 0, 0, 0, 4076, 4088, 94, 0] [0, 0, 71, 0, 0, 0, 0, 4088, 124, 4088, 0, 0, 0, 0, 0, 0, 0, 0] ?_)
  refine bz_run (n := n + 1) (bz_iLdC 144 34 0 34 156 0 156 [124, 0, 0, 0, 4076, 4088, 156, 0] ?_)
  refine bz_run (n := n + 0) (bz_iCallSi 156 9 146 [124, 0, 0, 0, 4074, 4088, 156, 0] [0, 0, 71, 0, 0, 0, 0, 4088, 124, 4088, 146, 0, 0, 0, 0, 0, 0, 0] ?_)
  exact h
theorem bz_r14_24 (hq : q < 65536) (h : wX_run_90 po2 n k1 k2 k3 k4 k5 k6 k7 k8 k9 (nI 89) 0 1 0 (nI 2) 0 (nI 7) k17 k18 a1 a2 a3 a4 a5 a6 a7 a8 a9 a10 a11 a12 a13 a14 a15 a16 a17 (bz_mem 1 2 (bz_cd1 250 q) [0, 0, 71, 0, 0, 0, 0, 4088, 124, 4088, 146, 4088, 0, 0, 0, 183, 0, 0]) (bz_rg [0, 0, 0, 0, 4064, 4072, 156, 0]) a20 a21) : wX_run_90 po2 (n + 12) k1 k2 k3 k4 k5 k6 k7 k8 k9 (nI 156) 0 1 0 (nI 6) 1 (nI 2) k17 k18 a1 a2 a3 a4 a5 a6 a7 a8 a9 a10 a11 a12 a13 a14 a15 a16 a17 (bz_mem 1 1 (bz_cd1 250 q) [0, 0, 71, 0, 0, 0, 0, 4088, 124, 4088, 146, 0, 0, 0, 0, 0, 0, 0]) (bz_rg [124, 0, 0, 0, 4074, 4088, 156, 0]) a20 a21 := by
  refine bz_run (n := n + 11) (bz_iPush5 157 10 4088 [124, 0, 0, 0, 4072, 4088, 156, 0] [0, 0, 71, 0, 0, 0, 0, 4088, 124, 4088, 146, 4088, 0, 0, 0, 0, 0, 0] ?_)
  refine bz_run (n := n + 10) (bz_iMovBpSp 159 4072 [124, 0, 0, 0, 4072, 4072, 156, 0] ?_)
  refine bz_run (n := n + 9) (bz_iCmpAc 164 ?_)
  refine bz_run (n := n + 8) (bz_iJl 171 5 166 ?_)
  refine bz_run (n := n + 7) (bz_iIncAc 175 2 ?_)
  refine bz_run (n := n + 6) (bz_iXor 177 124 0 1 [0, 0, 0, 0, 4072, 4072, 156, 0] ?_)
  refine bz_run (n := n + 5) (bz_iPush0 178 11 0 [0, 0, 0, 0, 4070, 4072, 156, 0] [0, 0, 71, 0, 0, 0, 0, 4088, 124, 4088, 146, 4088, 0, 0, 0, 0, 0, 0] ?_)
  refine bz_run (n := n + 4) (bz_iPush0 179 12 0 [0, 0, 0, 0, 4068, 4072, 156, 0] [0, 0, 71, 0, 0, 0, 0, 4088, 124, 4088, 146, 4088, 0, 0, 0, 0, 0, 0] ?_)
  refine bz_run (n := n + 3) (bz_iPush0 180 13 0 [0, 0, 0, 0, 4066, 4072, 156, 0] [0, 0, 71, 0, 0, 0, 0, 4088, 124, 4088, 146, 4088, 0, 0, 0, 0, 0, 0] ?_)
  refine bz_run (n := n + 2) (bz_iCall 76 14 183 149 255 65429 [0, 0, 0, 0, 4064, 4072, 156, 0] [0, 0, 71, 0, 0, 0, 0, 4088, 124, 4088, 146, 4088, 0, 0, 0, 183, 0, 0] ?_)
  refine bz_run (n := n + 1) (bz_iCmpSt 82 ?_)
  refine bz_run (n := n + 0) (bz_iJl 89 5 84 ?_)
  exact h
theorem bz_r14_36 (hq : q < 65536) (h : wX_run_90 po2 n k1 k2 k3 k4 k5 k6 k7 k8 k9 (nI 197) 0 1 0 (nI 4080) 0 (nI 5) k17 k18 a1 a2 a3 a4 a5 a6 a7 a8 a9 a10 a11 a12 a13 a14 a15 a16 a17 (bz_mem 3 2 (bz_cd1 250 q) [0, 0, 71, 0, 0, 0, 0, 4088, 124, 4088, 146, 4088, 0, 0, 0, q, 4072, 0]) (bz_rg [q, 0, 0, 0, 4062, 4088, 124, 0]) a20 a21) : wX_run_90 po2 (n + 12) k1 k2 k3 k4 k5 k6 k7 k8 k9 (nI 89) 0 1 0 (nI 2) 0 (nI 7) k17 k18 a1 a2 a3 a4 a5 a6 a7 a8 a9 a10 a11 a12 a13 a14 a15 a16 a17 (bz_mem 1 2 (bz_cd1 250 q) [0, 0, 71, 0, 0, 0, 0, 4088, 124, 4088, 146, 4088, 0, 0, 0, 183, 0, 0]) (bz_rg [0, 0, 0, 0, 4064, 4072, 156, 0]) a20 a21 := by
  refine bz_run (n := n + 11) (bz_iIncSt 93 2 ?_)
  refine bz_run (n := n + 10) (bz_iRet 15 183 [0, 0, 0, 0, 4066, 4072, 156, 0] ?_)
  refine bz_run (n := n + 9) (bz_iMov0 186 (q % 256) (q / 256) q [q, 0, 0, 0, 4066, 4072, 156, 0] ?_ (hl := by omega) (hh := by omega) (hw := by omega))
  refine bz_run (n := n + 8) (bz_iPush0 187 14 q [q, 0, 0, 0, 4064, 4072, 156, 0] [0, 0, 71, 0, 0, 0, 0, 4088, 124, 4088, 146, 4088, 0, 0, 0, q, 0, 0] ?_)
  refine bz_run (n := n + 7) (bz_iCall 76 15 190 142 255 65422 [q, 0, 0, 0, 4062, 4072, 156, 0] [0, 0, 71, 0, 0, 0, 0, 4088, 124, 4088, 146, 4088, 0, 0, 0, q, 190, 0] ?_)
  refine bz_run (n := n + 6) (bz_iCmpSt 82 ?_)
  refine bz_run (n := n + 5) (bz_iJl 89 5 84 ?_)
  refine bz_run (n := n + 4) (bz_iIncSt 93 3 ?_)
  refine bz_run (n := n + 3) (bz_iRet 16 190 [q, 0, 0, 0, 4064, 4072, 156, 0] ?_)
  refine bz_run (n := n + 2) (bz_iLd6 193 6 4072 4078 8 124 [q, 0, 0, 0, 4064, 4072, 124, 0] ?_)
  refine bz_run (n := n + 1) (bz_iPush5 194 15 4072 [q, 0, 0, 0, 4062, 4072, 124, 0] [0, 0, 71, 0, 0, 0, 0, 4088, 124, 4088, 146, 4088, 0, 0, 0, q, 4072, 0] ?_)
  refine bz_run (n := n + 0) (bz_iLd5 197 8 4072 4080 7 4088 [q, 0, 0, 0, 4062, 4088, 124, 0] ?_)
  exact h
theorem bz_r14_48 (hq : q < 65536) (h : wX_run_90 po2 n k1 k2 k3 k4 k5 k6 k7 k8 k9 (nI 213) 0 0 0 (nI 4) 0 (nI 1) k17 k18 a1 a2 a3 a4 a5 a6 a7 a8 a9 a10 a11 a12 a13 a14 a15 a16 a17 (bz_mem 3 1 (bz_cd1 250 q) [0, 0, 71, 0, 0, 0, q, 4088, 124, 4088, 146, 4088, 0, 0, 0, q, 4072, 202]) (bz_rg [q, 1, 0, 4082, 4074, 4088, 124, 0]) a20 a21) : wX_run_90 po2 (n + 12) k1 k2 k3 k4 k5 k6 k7 k8 k9 (nI 197) 0 1 0 (nI 4080) 0 (nI 5) k17 k18 a1 a2 a3 a4 a5 a6 a7 a8 a9 a10 a11 a12 a13 a14 a15 a16 a17 (bz_mem 3 2 (bz_cd1 250 q) [0, 0, 71, 0, 0, 0, 0, 4088, 124, 4088, 146, 4088, 0, 0, 0, q, 4072, 0]) (bz_rg [q, 0, 0, 0, 4062, 4088, 124, 0]) a20 a21 := by
  refine bz_run (n := n + 11) (bz_iMov1 200 1 0 1 [q, 1, 0, 0, 4062, 4088, 124, 0] ?_)
  refine bz_run (n := n + 10) (bz_iCallSi 124 16 202 [q, 1, 0, 0, 4060, 4088, 124, 0] [0, 0, 71, 0, 0, 0, 0, 4088, 124, 4088, 146, 4088, 0, 0, 0, q, 4072, 202] ?_)
  refine bz_run (n := n + 9) (bz_iLea 127 250 4088 4082 [q, 1, 0, 4082, 4060, 4088, 124, 0] ?_)
  refine bz_run (n := n + 8) (bz_iOr 129 1 1 0 [q, 1, 0, 4082, 4060, 4088, 124, 0] ?_)
  refine bz_run (n := n + 7) (bz_iJnz 133 2 131 ?_)
  refine bz_run (n := n + 6) (bz_iRet 17 202 [q, 1, 0, 4082, 4062, 4088, 124, 0] ?_)
  refine bz_run (n := n + 5) (bz_iPop5 203 16 4072 [q, 1, 0, 4082, 4064, 4072, 124, 0] ?_)
  refine bz_run (n := n + 4) (bz_iPop0 204 15 q [q, 1, 0, 4082, 4066, 4072, 124, 0] ?_ (hw' := hq))
  refine bz_run (n := n + 3) (bz_iStBx 206 4082 6 q [0, 0, 71, 0, 0, 0, q, 4088, 124, 4088, 146, 4088, 0, 0, 0, q, 4072, 202] ?_)
  refine bz_run (n := n + 2) (bz_iMovSpBp 208 4072 [q, 1, 0, 4082, 4072, 4072, 124, 0] ?_)
  refine bz_run (n := n + 1) (bz_iDecAc 212 1 ?_)
  refine bz_run (n := n + 0) (bz_iPop5 213 11 4088 [q, 1, 0, 4082, 4074, 4088, 124, 0] ?_)
  exact h
theorem bz_r14_60 (hq : q < 65536) (h : wX_run_90 po2 n k1 k2 k3 k4 k5 k6 k7 k8 k9 (nI 76) 0 0 1 (nI 4) 0 (nI 1) k17 k18 a1 a2 a3 a4 a5 a6 a7 a8 a9 a10 a11 a12 a13 a14 a15 a16 a17 (bz_mem 3 0 (bz_cd1 250 q) [0, 0, 71, 0, 0, 0, q, 4088, 124, 4088, 146, 4088, 0, 0, 0, q, 4072, 202]) (bz_rg [0, 1, 0, 4082, 4094, 0, 124, 0]) a20 a21) : wX_run_90 po2 (n + 7) k1 k2 k3 k4 k5 k6 k7 k8 k9 (nI 213) 0 0 0 (nI 4) 0 (nI 1) k17 k18 a1 a2 a3 a4 a5 a6 a7 a8 a9 a10 a11 a12 a13 a14 a15 a16 a17 (bz_mem 3 1 (bz_cd1 250 q) [0, 0, 71, 0, 0, 0, q, 4088, 124, 4088, 146, 4088, 0, 0, 0, q, 4072, 202]) (bz_rg [q, 1, 0, 4082, 4074, 4088, 124, 0]) a20 a21 := by
  refine bz_run (n := n + 6) (bz_iRetn 10 146 6 0 6 4082 [q, 1, 0, 4082, 4082, 4088, 124, 0] ?_)
  refine bz_run (n := n + 5) (bz_iMovSpBp 148 4088 [q, 1, 0, 4082, 4088, 4088, 124, 0] ?_)
  refine bz_run (n := n + 4) (bz_iDecAc 152 0 ?_)
  refine bz_run (n := n + 3) (bz_iPop5 153 3 0 [q, 1, 0, 4082, 4090, 0, 124, 0] ?_)
  refine bz_run (n := n + 2) (bz_iRetn 2 71 2 0 2 4094 [q, 1, 0, 4082, 4094, 0, 124, 0] ?_)
  refine bz_run (n := n + 1) (bz_iMov0 74 0 0 0 [0, 1, 0, 4082, 4094, 0, 124, 0] ?_)
  refine bz_run (n := n + 0) (bz_iInt 76 ?_)
  exact h
theorem bz_r14 (hq : q < 65536) (h : wX_run_90 po2 n k1 k2 k3 k4 k5 k6 k7 k8 k9 (nI 76) 0 0 1 (nI 4) 0 (nI 1) k17 k18 a1 a2 a3 a4 a5 a6 a7 a8 a9 a10 a11 a12 a13 a14 a15 a16 a17 (bz_mem 3 0 (bz_cd1 250 q) [0, 0, 71, 0, 0, 0, q, 4088, 124, 4088, 146, 4088, 0, 0, 0, q, 4072, 202]) (bz_rg [0, 1, 0, 4082, 4094, 0, 124, 0]) a20 a21) : wX_run_90 po2 (n + 67) k1 k2 k3 k4 k5 k6 k7 k8 k9 (nI 64) 0 0 0 (nI 0) 0 (nI 0) k17 k18 a1 a2 a3 a4 a5 a6 a7 a8 a9 a10 a11 a12 a13 a14 a15 a16 a17 (bz_mem 0 0 (bz_cd1 250 q) [0, 0, 0, 0, 0, 0, 0, 0, 0, 0, 0, 0, 0, 0, 0, 0, 0, 0]) (bz_rg [0, 0, 0, 0, 4094, 0, 0, 0]) a20 a21 := by
  refine bz_r14_0 (n := n + 55) hq ?_
  refine bz_r14_12 (n := n + 43) hq ?_
  refine bz_r14_24 (n := n + 31) hq ?_
  refine bz_r14_36 (n := n + 19) hq ?_
  refine bz_r14_48 (n := n + 7) hq ?_
  refine bz_r14_60 (n := n + 0) hq ?_
  exact h
end
end
section
def bz_z : Nat → Int32 := fun _ => 0
def bz_a1 : Nat → Int32 := upd (upd bz_z 0 (-1)) 1 0
def bz_a2 (m : Int32) : Nat → Int32 := upd (upd bz_z 0 0) 1 m
def bz_a3 : Nat → Int32 := upd (upd (upd (upd bz_z 0 (-1)) 1 (-1)) 1 0) 0 1
def bz_a4 : Nat → Int32 := upd (upd bz_z 0 0) 1 1
def bz_a5 (y v : Int32) : Nat → Int32 := upd (upd bz_z 0 y) 1 v
def bz_a6 : Nat → Int32 := upd (upd bz_z 0 0) 1 0
def bz_a7 : Nat → Int32 := upd (upd bz_z 0 1) 1 1
def bz_a8 : Nat → Int32 := upd (upd bz_z 0 0) 1 5
def bz_a9 : Nat → Int32 := upd (upd bz_z 0 5) 1 1
def bz_a10 : Nat → Int32 := upd (upd bz_z 0 0) 1 1
def bz_a11 : Nat → Int32 := upd (upd bz_z 0 0) 1 99
def bz_a12 : Nat → Int32 := upd (upd bz_z 0 2) 1 2
section
variable {post : St2 → Prop} {po2 : Int32 → St2 → Prop} {po1 : Int32 → Prop} {k1 k2 k3 k4 k5 k6 k7 k8 k9 k10 k11 k12 k13 k14 k15 k16 k17 k18 : Int32} {a1 a2 a3 a4 a5 a6 a7 a8 a9 a10 a11 a12 a13 a14 a15 a16 a17 a18 a19 a20 a21 : Nat → Int32} {st ac n q : Nat} {C H : List Nat} {y : Int32}
theorem bz_ibnL {p : Int32} (v : Int32) (hp : p = v) (h2 : 2 ≤ v - v / 5 * 5) (h : po1 0) : wpX_isByName po1 (k1, k2, k3, k4, k5, k6, k7, k8, k9, k10, k11, k12, k13, k14, k15, k16, k17, k18, a1, a2, a3, a4, a5, a6, a7, a8, a9, a10, a11, a12, a13, a14, a15, a16, a17, a18, a19, a20, a21) p := by
  subst hp
  unfold wpX_isByName
  exact ⟨by decide, br_t h2 h⟩
theorem bz_offL {p : Int32} (v o : Int32) (hp : p = v) (h1 : ¬ v - v / 5 * 5 ≤ 1) (ho : 2 - 2 * (v - v / 5 * 5) = o) (h : po1 o) : wpX_offsetOf po1 (k1, k2, k3, k4, k5, k6, k7, k8, k9, k10, k11, k12, k13, k14, k15, k16, k17, k18, a1, a2, a3, a4, a5, a6, a7, a8, a9, a10, a11, a12, a13, a14, a15, a16, a17, a18, a19, a20, a21) p := by
  subst hp ho
  unfold wpX_offsetOf
  exact ⟨by decide, nm_e (br_f h1 h)⟩
theorem bz_off5 {m : Int32} (hm : m / 3 = 0) (h : po1 6) : wpX_offsetOf po1 (k1, k2, k3, k4, k5, k6, k7, k8, k9, k10, k11, k12, k13, k14, k15, k16, k17, k18, a1, bz_a2 m, a3, a4, a5, a6, a7, a8, a9, a10, a11, a12, a13, a14, a15, a16, a17, a18, a19, a20, a21) 5 := by
  unfold wpX_offsetOf
  refine ⟨by decide, nm_r (e' := 0) (by decide) (br_t (by decide) (br_f (by decide) ⟨by decide, ?_⟩))⟩
  unfold wpX_sizeOf
  refine bz_mode1 1 0 (by decide) (by decide) (by decide) (by exact hm) ?_
  exact br_f (by decide) h
theorem bz_ibn5 {m : Int32} (r : Int32) (hm : m - m / 3 * 3 = m) (hr : r = if m = 2 then 1 else 0) (h : po1 r) : wpX_isByName po1 (k1, k2, k3, k4, k5, k6, k7, k8, k9, k10, k11, k12, k13, k14, k15, k16, k17, k18, a1, bz_a2 m, a3, a4, a5, a6, a7, a8, a9, a10, a11, a12, a13, a14, a15, a16, a17, a18, a19, a20, a21) 5 := by
  unfold wpX_isByName
  refine ⟨by decide, br_f (by decide) ⟨by decide, by decide, ?_⟩⟩
  refine bz_mode0 1 m (by decide) (by decide) (by decide) (by exact hm) ?_
  by_cases e : m = 2
  · rw [if_pos e] at hr
    subst hr
    exact br_t e h
  · rw [if_neg e] at hr
    subst hr
    exact br_f e h
def bz_k0 : List Nat := [0, 0, 0, 0, 0, 0, 0, 0, 0, 0, 0, 0, 0, 0, 0, 0, 0, 0, 0, 0, 0, 0, 0, 0, 0, 0, 0, 0, 0, 0, 0, 0, 80, 139, 54, 32, 0, 255, 214, 184, 0, 0, 205, 0, 129, 62, 2, 0, 244, 1, 124, 5, 184, 1, 0, 205, 0, 255, 6, 2, 0, 195]
def bz_k1_12 : List Nat := [94, 0, 0, 0, 0, 0, 0, 0, 0, 0, 0, 0, 0, 0, 0, 0, 0, 0, 0, 0, 0, 0, 0, 0, 0, 0, 0, 0, 0, 0, 0, 0, 80, 139, 54, 32, 0, 255, 214, 184, 0, 0, 205, 0, 129, 62, 2, 0, 244, 1, 124, 5, 184, 1, 0, 205, 0, 255, 6, 2, 0, 195, 85, 139, 236, 131, 62, 4, 0, 12, 124, 5, 184, 2, 0, 205, 0, 255, 6, 4, 0, 51, 192, 80, 80, 80, 232, 211, 255, 139, 70, 254, 80, 85, 139, 54, 34, 0, 255, 214, 139, 229, 255, 14, 4, 0, 93, 194, 2, 0]
theorem bz_cp0_12 (hn : 32 + C.length = 118) (h : ∀ (e9 : Int32) (e16 e17 : Nat → Int32), 32 + (((((((C ++ [232, 211, 255]) ++ [139, 70, 254]) ++ [80]) ++ [85]) ++ [139, 54]) ++ [34, 0]) ++ [255, 214]).length = 132 → post (2, 2, 2, 0, nI 132, nI 76, 0, 0, e9, k10, k11, k12, k13, k14, k15, k16, k17, k18, bz_a1, bz_a2 1, bz_a3, bz_a4, bz_a5 y 2, bz_a6, bz_a7, bz_a8, bz_a9, bz_a10, bz_a11, bz_a12, a13, a14, a15, e16, e17, bz_mem st ac (((((((C ++ [232, 211, 255]) ++ [139, 70, 254]) ++ [80]) ++ [85]) ++ [139, 54]) ++ [34, 0]) ++ [255, 214]) H, a19, a20, a21)) : wpX_compilePlain post (2, 2, 2, 0, nI 118, nI 76, 0, 0, k9, k10, k11, k12, k13, k14, k15, k16, k17, k18, bz_a1, bz_a2 1, bz_a3, bz_a4, bz_a5 y 2, bz_a6, bz_a7, bz_a8, bz_a9, bz_a10, bz_a11, bz_a12, a13, a14, a15, a16, a17, bz_mem st ac C H, a19, a20, a21) 1 5 := by
  unfold wpX_compilePlain
  refine br_f (by decide) ?_
  refine bz_callTo 121 211 255 hn (fun hn => ?_)
  refine br_t rfl ?_
  unfold wpX_compileCall
  refine ⟨vp_in_iff.mpr (by decide), ?_⟩
  refine nm_r (e' := (1 : Int32)) (by decide) ?_
  refine Exists.intro 3 ?_
  refine br_f (by decide) ?_
  refine bz_mode0 1 1 (by decide) (by decide) rfl (by decide) ?_
  refine br_f (by decide) ?_
  refine br_t rfl ?_
  refine ⟨vp_in_iff.mpr (by decide), ?_⟩
  unfold wX_compileCall_50 wpX_compileArgument
  refine br_f (by decide) ?_
  unfold wpX_compileExpression
  refine bz_enterExpr 1 ?_
  refine Exists.intro 2 ?_
  refine br_f (by decide) ?_
  refine nm_r (e' := (0 : Int32)) (by decide) ?_
  refine ⟨vp_in_iff.mpr (by decide), ?_⟩
  refine nm_r (e' := (1 : Int32)) rfl ?_
  refine ⟨vp_in_iff.mpr (by decide), ?_⟩
  refine nm_r (e' := (1 : Int32)) (by decide) ?_
  refine ⟨vp_in_iff.mpr (by decide), ?_⟩
  refine nm_r (e' := (0 : Int32)) rfl ?_
  refine ⟨vp_in_iff.mpr (by decide), vp_in_iff.mpr (by decide), ?_⟩
  refine nm_e ?_
  refine br_f (by decide) ?_
  refine br_t rfl ?_
  unfold wX_compileExpression_69
  refine nm_r (e' := (0 : Int32)) (by decide) ?_
  refine br_f (by decide) ⟨vp_in_iff.mpr (by decide), ?_⟩
  unfold wpX_loadVariable
  refine bz_ibnL 2 rfl (by decide) ?_
  refine br_t rfl ⟨by decide, ?_⟩
  refine bz_ff0 (show (0 : Int32) = 2 / 5 by decide) (by decide) (by decide) ?_
  refine bz_offL 2 (-2) rfl (by decide) (by decide) ?_
  refine bz_touch 124 139 70 254 hn rfl (fun hn => ?_)
  refine br_t (by decide) ?_
  unfold wX_compileArgument_31
  refine bz_put 125 80 hn (fun hn => ?_)
  refine nm_r (e' := (1 : Int32)) (by decide) ?_
  refine br_f (by decide) ?_
  refine bz_mode1 1 0 (by decide) (by decide) (by decide) (by decide) ?_
  refine br_t rfl ?_
  refine nm_r (e' := (2 : Int32)) (by decide) ?_
  refine br_t (by decide) ?_
  refine ⟨vp_in_iff.mpr (by decide), ?_⟩
  refine bz_ff0 (show (0 : Int32) = bz_a1 1 by decide) (by decide) (by decide) ?_
  refine br_t rfl ?_
  refine bz_put 126 85 hn (fun hn => ?_)
  unfold wX_compileCall_89
  refine bz_put2 128 139 54 hn (fun hn => ?_)
  refine bz_putWord 130 34 0 hn (fun hn => ?_)
  refine bz_put2 132 255 214 hn (fun hn => ?_)
  exact h _ _ _ hn
theorem bz_pr0_12 (hn : 32 + (bz_k0).length = 94) (h : ∀ (e7 e8 e9 : Int32) (e13 e14 e16 e17 : Nat → Int32), post (2, 2, 2, 0, nI 142, nI 76, e7, e8, e9, k10, k11, k12, k13, k14, k15, k16, k17, k18, bz_a1, bz_a2 1, bz_a3, bz_a4, bz_a5 y 2, bz_a6, bz_a7, bz_a8, bz_a9, bz_a10, bz_a11, bz_a12, e13, e14, a15, e16, e17, bz_mem st ac (bz_k1_12) H, a19, a20, a21)) : wpX_compileProcedure post (2, 2, 2, 0, nI 94, nI 76, k7, k8, k9, k10, k11, k12, k13, k14, k15, k16, k17, k18, bz_a1, bz_a2 1, bz_a3, bz_a4, bz_a5 y 2, bz_a6, bz_a7, bz_a8, bz_a9, bz_a10, bz_a11, bz_a12, a13, a14, a15, a16, a17, bz_mem st ac (bz_k0) H, a19, a20, a21) 0 := by
  unfold wpX_compileProcedure
  refine bz_setWC 0 94 0 hn (fun hn => ?_)
  refine bz_put 95 85 hn (fun hn => ?_)
  refine bz_put2 97 139 236 hn (fun hn => ?_)
  refine bz_put2 99 131 62 hn (fun hn => ?_)
  refine bz_putWord 101 4 0 hn (fun hn => ?_)
  refine bz_put 102 12 hn (fun hn => ?_)
  refine bz_put2 104 124 5 hn (fun hn => ?_)
  refine bz_stop 109 2 0 hn (fun hn => ?_)
  refine bz_put2 111 255 6 hn (fun hn => ?_)
  refine bz_putWord 113 4 0 hn (fun hn => ?_)
  refine bz_put2 115 51 192 hn (fun hn => ?_)
  refine bz_put3 118 80 80 80 hn (fun hn => ?_)
  refine ⟨vp_in_iff.mpr (by decide), ?_⟩
  unfold wpX_compileState
  refine bz_enterState 1 ?_
  refine Exists.intro 2 ?_
  refine br_f (by decide) ?_
  refine nm_r (e' := (0 : Int32)) (by decide) ?_
  refine ⟨vp_in_iff.mpr (by decide), ?_⟩
  refine nm_r (e' := (1 : Int32)) rfl ?_
  refine ⟨vp_in_iff.mpr (by decide), ?_⟩
  refine nm_r (e' := (5 : Int32)) (by decide) ?_
  refine ⟨vp_in_iff.mpr (by decide), ?_⟩
  refine nm_r (e' := (0 : Int32)) rfl ?_
  refine ⟨vp_in_iff.mpr (by decide), vp_in_iff.mpr (by decide), ?_⟩
  refine nm_e ?_
  refine br_f (by decide) ?_
  refine br_f (by decide) ?_
  refine br_f (by decide) ?_
  refine nm_r (e' := (0 : Int32)) (by decide) ?_
  refine bz_cp0_12 hn (fun e9 e16 e17 hn => ?_)
  refine br_t (by decide) ?_
  refine bz_put2 134 139 229 hn (fun hn => ?_)
  refine bz_put2 136 255 14 hn (fun hn => ?_)
  refine bz_putWord 138 4 0 hn (fun hn => ?_)
  refine bz_put 139 93 hn (fun hn => ?_)
  refine bz_put 140 194 hn (fun hn => ?_)
  unfold wpX_sizeOf
  refine bz_mode0 0 0 (by decide) (by decide) rfl (by decide) ?_
  refine br_f (by decide) ?_
  refine bz_mode1 0 0 (by decide) (by decide) (by decide) (by decide) ?_
  refine br_f (by decide) ?_
  refine nm_r (e' := (2 : Int32)) (by decide) ?_
  refine bz_putWord 142 2 0 hn (fun hn => ?_)
  have e : (((((((((((((((((((((((((((bz_k0.set 0 94).set 1 0) ++ [85]) ++ [139, 236]) ++ [131, 62]) ++ [4, 0]) ++ [12]) ++ [124, 5]) ++ [184, 2, 0, 205, 0]) ++ [255, 6]) ++ [4, 0]) ++ [51, 192]) ++ [80, 80, 80]) ++ [232, 211, 255]) ++ [139, 70, 254]) ++ [80]) ++ [85]) ++ [139, 54]) ++ [34, 0]) ++ [255, 214])) ++ [139, 229]) ++ [255, 14]) ++ [4, 0]) ++ [93]) ++ [194]) ++ [2, 0]) = bz_k1_12 := by simp only [List.append_assoc]; rfl
  rw [e]
  exact h _ _ _ _ _ _ _
theorem bz_cp1_12 (hy1 : (y &&& 255).toInt8.toInt32 = bz_b (q % 256)) (hy2 : ((y >>> ((8 : Int32) &&& 31)) &&& 255).toInt8.toInt32 = bz_b (q / 256)) (hn : 32 + C.length = 166) (h : ∀ (e9 : Int32) (e16 e17 : Nat → Int32), 32 + (((C ++ [232, 163, 255]) ++ [184, q % 256, q / 256]) ++ [137, 70, 6]).length = 175 → post (2, 2, 2, 0, nI 175, nI 76, 1, 0, e9, k10, k11, k12, k13, k14, k15, k16, k17, k18, bz_a1, bz_a2 1, bz_a3, bz_a4, bz_a5 y 2, bz_a6, bz_a7, bz_a8, bz_a9, bz_a10, bz_a11, bz_a12, a13, a14, a15, e16, e17, bz_mem st ac (((C ++ [232, 163, 255]) ++ [184, q % 256, q / 256]) ++ [137, 70, 6]) H, a19, a20, a21)) : wpX_compilePlain post (2, 2, 2, 0, nI 166, nI 76, 1, 0, k9, k10, k11, k12, k13, k14, k15, k16, k17, k18, bz_a1, bz_a2 1, bz_a3, bz_a4, bz_a5 y 2, bz_a6, bz_a7, bz_a8, bz_a9, bz_a10, bz_a11, bz_a12, a13, a14, a15, a16, a17, bz_mem st ac C H, a19, a20, a21) 0 0 := by
  unfold wpX_compilePlain
  refine br_f (by decide) ?_
  refine bz_callTo 169 163 255 hn (fun hn => ?_)
  refine br_f (by decide) ?_
  refine br_t rfl ?_
  refine ⟨vp_in_iff.mpr (by decide), ?_⟩
  unfold wX_compilePlain_46
  unfold wpX_compileExpression
  refine bz_enterExpr 0 ?_
  refine Exists.intro 2 ?_
  refine br_f (by decide) ?_
  refine nm_r (e' := (0 : Int32)) (by decide) ?_
  refine ⟨vp_in_iff.mpr (by decide), ?_⟩
  refine nm_r (e' := (0 : Int32)) rfl ?_
  refine ⟨vp_in_iff.mpr (by decide), ?_⟩
  refine nm_r (e' := (0 : Int32)) (by decide) ?_
  refine ⟨vp_in_iff.mpr (by decide), ?_⟩
  refine nm_r (e' := (0 : Int32)) rfl ?_
  refine ⟨vp_in_iff.mpr (by decide), vp_in_iff.mpr (by decide), ?_⟩
  refine nm_e ?_
  refine br_t rfl ?_
  unfold wX_compileExpression_69
  refine nm_r (e' := (0 : Int32)) (by decide) ?_
  refine br_t rfl ⟨vp_in_iff.mpr (by decide), ?_⟩
  refine bz_load 172 184 (q % 256) (q / 256) hn (fun hn => ?_) (by decide) hy1 hy2
  refine br_t (by decide) ?_
  refine br_f (by decide) ?_
  refine ⟨vp_in_iff.mpr (by decide), ?_⟩
  refine nm_r (e' := (5 : Int32)) (by decide) ?_
  refine bz_ibn5 0 (by decide) (by decide) ?_
  refine br_t rfl ⟨by decide, ?_⟩
  refine bz_ff0 (show (1 : Int32) = 5 / 5 by decide) (by decide) (by decide) ?_
  refine bz_off5 (by decide) ?_
  refine bz_touch 175 137 70 6 hn rfl (fun hn => ?_)
  exact h _ _ _ hn
theorem bz_pr1_12 (hy1 : (y &&& 255).toInt8.toInt32 = bz_b (q % 256)) (hy2 : ((y >>> ((8 : Int32) &&& 31)) &&& 255).toInt8.toInt32 = bz_b (q / 256)) (hn : 32 + (bz_k1_12).length = 142) (h : ∀ (e7 e8 e9 : Int32) (e13 e14 e16 e17 : Nat → Int32), post (2, 2, 2, 0, nI 185, nI 76, e7, e8, e9, k10, k11, k12, k13, k14, k15, k16, k17, k18, bz_a1, bz_a2 1, bz_a3, bz_a4, bz_a5 y 2, bz_a6, bz_a7, bz_a8, bz_a9, bz_a10, bz_a11, bz_a12, e13, e14, a15, e16, e17, bz_mem st ac (bz_cd0 254 q) H, a19, a20, a21)) : wpX_compileProcedure post (2, 2, 2, 0, nI 142, nI 76, k7, k8, k9, k10, k11, k12, k13, k14, k15, k16, k17, k18, bz_a1, bz_a2 1, bz_a3, bz_a4, bz_a5 y 2, bz_a6, bz_a7, bz_a8, bz_a9, bz_a10, bz_a11, bz_a12, a13, a14, a15, a16, a17, bz_mem st ac (bz_k1_12) H, a19, a20, a21) 1 := by
  unfold wpX_compileProcedure
  refine bz_setWC 2 142 0 hn (fun hn => ?_)
  refine bz_put 143 85 hn (fun hn => ?_)
  refine bz_put2 145 139 236 hn (fun hn => ?_)
  refine bz_put2 147 131 62 hn (fun hn => ?_)
  refine bz_putWord 149 4 0 hn (fun hn => ?_)
  refine bz_put 150 12 hn (fun hn => ?_)
  refine bz_put2 152 124 5 hn (fun hn => ?_)
  refine bz_stop 157 2 0 hn (fun hn => ?_)
  refine bz_put2 159 255 6 hn (fun hn => ?_)
  refine bz_putWord 161 4 0 hn (fun hn => ?_)
  refine bz_put2 163 51 192 hn (fun hn => ?_)
  refine bz_put3 166 80 80 80 hn (fun hn => ?_)
  refine ⟨vp_in_iff.mpr (by decide), ?_⟩
  unfold wpX_compileState
  refine bz_enterState 0 ?_
  refine Exists.intro 2 ?_
  refine br_f (by decide) ?_
  refine nm_r (e' := (0 : Int32)) (by decide) ?_
  refine ⟨vp_in_iff.mpr (by decide), ?_⟩
  refine nm_r (e' := (0 : Int32)) rfl ?_
  refine ⟨vp_in_iff.mpr (by decide), ?_⟩
  refine nm_r (e' := (0 : Int32)) (by decide) ?_
  refine ⟨vp_in_iff.mpr (by decide), ?_⟩
  refine nm_r (e' := (0 : Int32)) rfl ?_
  refine ⟨vp_in_iff.mpr (by decide), vp_in_iff.mpr (by decide), ?_⟩
  refine nm_e ?_
  refine br_f (by decide) ?_
  refine br_f (by decide) ?_
  refine br_f (by decide) ?_
  refine nm_r (e' := (0 : Int32)) (by decide) ?_
  refine bz_cp1_12 hy1 hy2 hn (fun e9 e16 e17 hn => ?_)
  refine br_t (by decide) ?_
  refine bz_put2 177 139 229 hn (fun hn => ?_)
  refine bz_put2 179 255 14 hn (fun hn => ?_)
  refine bz_putWord 181 4 0 hn (fun hn => ?_)
  refine bz_put 182 93 hn (fun hn => ?_)
  refine bz_put 183 194 hn (fun hn => ?_)
  unfold wpX_sizeOf
  refine bz_mode0 1 1 (by decide) (by decide) rfl (by decide) ?_
  refine br_f (by decide) ?_
  refine bz_mode1 1 0 (by decide) (by decide) (by decide) (by decide) ?_
  refine br_f (by decide) ?_
  refine nm_r (e' := (4 : Int32)) (by decide) ?_
  refine bz_putWord 185 4 0 hn (fun hn => ?_)
  have e : (((((((((((((((((((((((bz_k1_12.set 2 142).set 3 0) ++ [85]) ++ [139, 236]) ++ [131, 62]) ++ [4, 0]) ++ [12]) ++ [124, 5]) ++ [184, 2, 0, 205, 0]) ++ [255, 6]) ++ [4, 0]) ++ [51, 192]) ++ [80, 80, 80]) ++ [232, 163, 255]) ++ [184, q % 256, q / 256]) ++ [137, 70, 6])) ++ [139, 229]) ++ [255, 14]) ++ [4, 0]) ++ [93]) ++ [194]) ++ [4, 0]) = bz_cd0 254 q := by simp only [List.append_assoc]; rfl
  rw [e]
  exact h _ _ _ _ _ _ _
theorem bz_co_12 (hy1 : (y &&& 255).toInt8.toInt32 = bz_b (q % 256)) (hy2 : ((y >>> ((8 : Int32) &&& 31)) &&& 255).toInt8.toInt32 = bz_b (q / 256)) (h : ∀ (e5 e6 e7 e8 e9 : Int32) (e13 e14 e16 e17 : Nat → Int32), post (2, 2, 2, 0, e5, e6, e7, e8, e9, k10, k11, k12, k13, k14, k15, k16, k17, k18, bz_a1, bz_a2 1, bz_a3, bz_a4, bz_a5 y 2, bz_a6, bz_a7, bz_a8, bz_a9, bz_a10, bz_a11, bz_a12, e13, e14, a15, e16, e17, bz_mem st ac (bz_cd0 254 q) H, a19, a20, a21)) : wpX_compile post (2, 2, 2, k4, k5, k6, k7, k8, k9, k10, k11, k12, k13, k14, k15, k16, k17, k18, bz_a1, bz_a2 1, bz_a3, bz_a4, bz_a5 y 2, bz_a6, bz_a7, bz_a8, bz_a9, bz_a10, bz_a11, bz_a12, a13, a14, a15, a16, a17, bz_mem st ac [0, 0, 0, 0, 0, 0, 0, 0, 0, 0, 0, 0, 0, 0, 0, 0, 0, 0, 0, 0, 0, 0, 0, 0, 0, 0, 0, 0, 0, 0, 0, 0] H, a19, a20, a21) := by
  unfold wpX_compile
  refine bz_put (n := 64) 65 80 rfl (fun hn => ?_)
  refine bz_put2 67 139 54 hn (fun hn => ?_)
  refine bz_putWord 69 32 0 hn (fun hn => ?_)
  refine bz_put2 71 255 214 hn (fun hn => ?_)
  refine bz_stop 76 0 0 hn (fun hn => ?_)
  refine bz_put2 78 129 62 hn (fun hn => ?_)
  refine bz_putWord 80 2 0 hn (fun hn => ?_)
  refine bz_putWord 82 244 1 hn (fun hn => ?_)
  refine bz_put2 84 124 5 hn (fun hn => ?_)
  refine bz_stop 89 1 0 hn (fun hn => ?_)
  refine bz_put2 91 255 6 hn (fun hn => ?_)
  refine bz_putWord 93 2 0 hn (fun hn => ?_)
  refine bz_put 94 195 hn (fun hn => ?_)
  refine Exists.intro 3 ?_
  refine br_f (by decide) ?_
  have e : ((((((((((((([0, 0, 0, 0, 0, 0, 0, 0, 0, 0, 0, 0, 0, 0, 0, 0, 0, 0, 0, 0, 0, 0, 0, 0, 0, 0, 0, 0, 0, 0, 0, 0] ++ [80]) ++ [139, 54]) ++ [32, 0]) ++ [255, 214]) ++ [184, 0, 0, 205, 0]) ++ [129, 62]) ++ [2, 0]) ++ [244, 1]) ++ [124, 5]) ++ [184, 1, 0, 205, 0]) ++ [255, 6]) ++ [2, 0]) ++ [195]) = bz_k0 := by simp only [List.append_assoc]; rfl
  rw [e]
  refine bz_pr0_12 (by decide) (fun e7 e8 e9 e13 e14 e16 e17 => ?_)
  refine nm_r (e' := (1 : Int32)) (by decide) ?_
  refine br_f (by decide) ?_
  refine bz_pr1_12 hy1 hy2 (by decide) (fun e7 e8 e9 e13 e14 e16 e17 => ?_)
  refine nm_r (e' := (2 : Int32)) (by decide) ?_
  refine br_t (by decide) ?_
  exact h _ _ _ _ _ _ _ _ _
def bz_k1_13 : List Nat := [94, 0, 0, 0, 0, 0, 0, 0, 0, 0, 0, 0, 0, 0, 0, 0, 0, 0, 0, 0, 0, 0, 0, 0, 0, 0, 0, 0, 0, 0, 0, 0, 80, 139, 54, 32, 0, 255, 214, 184, 0, 0, 205, 0, 129, 62, 2, 0, 244, 1, 124, 5, 184, 1, 0, 205, 0, 255, 6, 2, 0, 195, 85, 139, 236, 131, 62, 4, 0, 12, 124, 5, 184, 2, 0, 205, 0, 255, 6, 4, 0, 51, 192, 80, 80, 80, 232, 211, 255, 139, 70, 252, 80, 85, 139, 54, 34, 0, 255, 214, 139, 229, 255, 14, 4, 0, 93, 194, 2, 0]
theorem bz_cp0_13 (hn : 32 + C.length = 118) (h : ∀ (e9 : Int32) (e16 e17 : Nat → Int32), 32 + (((((((C ++ [232, 211, 255]) ++ [139, 70, 252]) ++ [80]) ++ [85]) ++ [139, 54]) ++ [34, 0]) ++ [255, 214]).length = 132 → post (2, 2, 2, 0, nI 132, nI 76, 0, 0, e9, k10, k11, k12, k13, k14, k15, k16, k17, k18, bz_a1, bz_a2 1, bz_a3, bz_a4, bz_a5 y 3, bz_a6, bz_a7, bz_a8, bz_a9, bz_a10, bz_a11, bz_a12, a13, a14, a15, e16, e17, bz_mem st ac (((((((C ++ [232, 211, 255]) ++ [139, 70, 252]) ++ [80]) ++ [85]) ++ [139, 54]) ++ [34, 0]) ++ [255, 214]) H, a19, a20, a21)) : wpX_compilePlain post (2, 2, 2, 0, nI 118, nI 76, 0, 0, k9, k10, k11, k12, k13, k14, k15, k16, k17, k18, bz_a1, bz_a2 1, bz_a3, bz_a4, bz_a5 y 3, bz_a6, bz_a7, bz_a8, bz_a9, bz_a10, bz_a11, bz_a12, a13, a14, a15, a16, a17, bz_mem st ac C H, a19, a20, a21) 1 5 := by
  unfold wpX_compilePlain
  refine br_f (by decide) ?_
  refine bz_callTo 121 211 255 hn (fun hn => ?_)
  refine br_t rfl ?_
  unfold wpX_compileCall
  refine ⟨vp_in_iff.mpr (by decide), ?_⟩
  refine nm_r (e' := (1 : Int32)) (by decide) ?_
  refine Exists.intro 3 ?_
  refine br_f (by decide) ?_
  refine bz_mode0 1 1 (by decide) (by decide) rfl (by decide) ?_
  refine br_f (by decide) ?_
  refine br_t rfl ?_
  refine ⟨vp_in_iff.mpr (by decide), ?_⟩
  unfold wX_compileCall_50 wpX_compileArgument
  refine br_f (by decide) ?_
  unfold wpX_compileExpression
  refine bz_enterExpr 1 ?_
  refine Exists.intro 2 ?_
  refine br_f (by decide) ?_
  refine nm_r (e' := (0 : Int32)) (by decide) ?_
  refine ⟨vp_in_iff.mpr (by decide), ?_⟩
  refine nm_r (e' := (1 : Int32)) rfl ?_
  refine ⟨vp_in_iff.mpr (by decide), ?_⟩
  refine nm_r (e' := (1 : Int32)) (by decide) ?_
  refine ⟨vp_in_iff.mpr (by decide), ?_⟩
  refine nm_r (e' := (0 : Int32)) rfl ?_
  refine ⟨vp_in_iff.mpr (by decide), vp_in_iff.mpr (by decide), ?_⟩
  refine nm_e ?_
  refine br_f (by decide) ?_
  refine br_t rfl ?_
  unfold wX_compileExpression_69
  refine nm_r (e' := (0 : Int32)) (by decide) ?_
  refine br_f (by decide) ⟨vp_in_iff.mpr (by decide), ?_⟩
  unfold wpX_loadVariable
  refine bz_ibnL 3 rfl (by decide) ?_
  refine br_t rfl ⟨by decide, ?_⟩
  refine bz_ff0 (show (0 : Int32) = 3 / 5 by decide) (by decide) (by decide) ?_
  refine bz_offL 3 (-4) rfl (by decide) (by decide) ?_
  refine bz_touch 124 139 70 252 hn rfl (fun hn => ?_)
  refine br_t (by decide) ?_
  unfold wX_compileArgument_31
  refine bz_put 125 80 hn (fun hn => ?_)
  refine nm_r (e' := (1 : Int32)) (by decide) ?_
  refine br_f (by decide) ?_
  refine bz_mode1 1 0 (by decide) (by decide) (by decide) (by decide) ?_
  refine br_t rfl ?_
  refine nm_r (e' := (2 : Int32)) (by decide) ?_
  refine br_t (by decide) ?_
  refine ⟨vp_in_iff.mpr (by decide), ?_⟩
  refine bz_ff0 (show (0 : Int32) = bz_a1 1 by decide) (by decide) (by decide) ?_
  refine br_t rfl ?_
  refine bz_put 126 85 hn (fun hn => ?_)
  unfold wX_compileCall_89
  refine bz_put2 128 139 54 hn (fun hn => ?_)
  refine bz_putWord 130 34 0 hn (fun hn => ?_)
  refine bz_put2 132 255 214 hn (fun hn => ?_)
  exact h _ _ _ hn
theorem bz_pr0_13 (hn : 32 + (bz_k0).length = 94) (h : ∀ (e7 e8 e9 : Int32) (e13 e14 e16 e17 : Nat → Int32), post (2, 2, 2, 0, nI 142, nI 76, e7, e8, e9, k10, k11, k12, k13, k14, k15, k16, k17, k18, bz_a1, bz_a2 1, bz_a3, bz_a4, bz_a5 y 3, bz_a6, bz_a7, bz_a8, bz_a9, bz_a10, bz_a11, bz_a12, e13, e14, a15, e16, e17, bz_mem st ac (bz_k1_13) H, a19, a20, a21)) : wpX_compileProcedure post (2, 2, 2, 0, nI 94, nI 76, k7, k8, k9, k10, k11, k12, k13, k14, k15, k16, k17, k18, bz_a1, bz_a2 1, bz_a3, bz_a4, bz_a5 y 3, bz_a6, bz_a7, bz_a8, bz_a9, bz_a10, bz_a11, bz_a12, a13, a14, a15, a16, a17, bz_mem st ac (bz_k0) H, a19, a20, a21) 0 := by
  unfold wpX_compileProcedure
  refine bz_setWC 0 94 0 hn (fun hn => ?_)
  refine bz_put 95 85 hn (fun hn => ?_)
  refine bz_put2 97 139 236 hn (fun hn => ?_)
  refine bz_put2 99 131 62 hn (fun hn => ?_)
  refine bz_putWord 101 4 0 hn (fun hn => ?_)
  refine bz_put 102 12 hn (fun hn => ?_)
  refine bz_put2 104 124 5 hn (fun hn => ?_)
  refine bz_stop 109 2 0 hn (fun hn => ?_)
  refine bz_put2 111 255 6 hn (fun hn => ?_)
  refine bz_putWord 113 4 0 hn (fun hn => ?_)
  refine bz_put2 115 51 192 hn (fun hn => ?_)
  refine bz_put3 118 80 80 80 hn (fun hn => ?_)
  refine ⟨vp_in_iff.mpr (by decide), ?_⟩
  unfold wpX_compileState
  refine bz_enterState 1 ?_
  refine Exists.intro 2 ?_
  refine br_f (by decide) ?_
  refine nm_r (e' := (0 : Int32)) (by decide) ?_
  refine ⟨vp_in_iff.mpr (by decide), ?_⟩
  refine nm_r (e' := (1 : Int32)) rfl ?_
  refine ⟨vp_in_iff.mpr (by decide), ?_⟩
  refine nm_r (e' := (5 : Int32)) (by decide) ?_
  refine ⟨vp_in_iff.mpr (by decide), ?_⟩
  refine nm_r (e' := (0 : Int32)) rfl ?_
  refine ⟨vp_in_iff.mpr (by decide), vp_in_iff.mpr (by decide), ?_⟩
  refine nm_e ?_
  refine br_f (by decide) ?_
  refine br_f (by decide) ?_
  refine br_f (by decide) ?_
  refine nm_r (e' := (0 : Int32)) (by decide) ?_
  refine bz_cp0_13 hn (fun e9 e16 e17 hn => ?_)
  refine br_t (by decide) ?_
  refine bz_put2 134 139 229 hn (fun hn => ?_)
  refine bz_put2 136 255 14 hn (fun hn => ?_)
  refine bz_putWord 138 4 0 hn (fun hn => ?_)
  refine bz_put 139 93 hn (fun hn => ?_)
  refine bz_put 140 194 hn (fun hn => ?_)
  unfold wpX_sizeOf
  refine bz_mode0 0 0 (by decide) (by decide) rfl (by decide) ?_
  refine br_f (by decide) ?_
  refine bz_mode1 0 0 (by decide) (by decide) (by decide) (by decide) ?_
  refine br_f (by decide) ?_
  refine nm_r (e' := (2 : Int32)) (by decide) ?_
  refine bz_putWord 142 2 0 hn (fun hn => ?_)
  have e : (((((((((((((((((((((((((((bz_k0.set 0 94).set 1 0) ++ [85]) ++ [139, 236]) ++ [131, 62]) ++ [4, 0]) ++ [12]) ++ [124, 5]) ++ [184, 2, 0, 205, 0]) ++ [255, 6]) ++ [4, 0]) ++ [51, 192]) ++ [80, 80, 80]) ++ [232, 211, 255]) ++ [139, 70, 252]) ++ [80]) ++ [85]) ++ [139, 54]) ++ [34, 0]) ++ [255, 214])) ++ [139, 229]) ++ [255, 14]) ++ [4, 0]) ++ [93]) ++ [194]) ++ [2, 0]) = bz_k1_13 := by simp only [List.append_assoc]; rfl
  rw [e]
  exact h _ _ _ _ _ _ _
theorem bz_cp1_13 (hy1 : (y &&& 255).toInt8.toInt32 = bz_b (q % 256)) (hy2 : ((y >>> ((8 : Int32) &&& 31)) &&& 255).toInt8.toInt32 = bz_b (q / 256)) (hn : 32 + C.length = 166) (h : ∀ (e9 : Int32) (e16 e17 : Nat → Int32), 32 + (((C ++ [232, 163, 255]) ++ [184, q % 256, q / 256]) ++ [137, 70, 6]).length = 175 → post (2, 2, 2, 0, nI 175, nI 76, 1, 0, e9, k10, k11, k12, k13, k14, k15, k16, k17, k18, bz_a1, bz_a2 1, bz_a3, bz_a4, bz_a5 y 3, bz_a6, bz_a7, bz_a8, bz_a9, bz_a10, bz_a11, bz_a12, a13, a14, a15, e16, e17, bz_mem st ac (((C ++ [232, 163, 255]) ++ [184, q % 256, q / 256]) ++ [137, 70, 6]) H, a19, a20, a21)) : wpX_compilePlain post (2, 2, 2, 0, nI 166, nI 76, 1, 0, k9, k10, k11, k12, k13, k14, k15, k16, k17, k18, bz_a1, bz_a2 1, bz_a3, bz_a4, bz_a5 y 3, bz_a6, bz_a7, bz_a8, bz_a9, bz_a10, bz_a11, bz_a12, a13, a14, a15, a16, a17, bz_mem st ac C H, a19, a20, a21) 0 0 := by
  unfold wpX_compilePlain
  refine br_f (by decide) ?_
  refine bz_callTo 169 163 255 hn (fun hn => ?_)
  refine br_f (by decide) ?_
  refine br_t rfl ?_
  refine ⟨vp_in_iff.mpr (by decide), ?_⟩
  unfold wX_compilePlain_46
  unfold wpX_compileExpression
  refine bz_enterExpr 0 ?_
  refine Exists.intro 2 ?_
  refine br_f (by decide) ?_
  refine nm_r (e' := (0 : Int32)) (by decide) ?_
  refine ⟨vp_in_iff.mpr (by decide), ?_⟩
  refine nm_r (e' := (0 : Int32)) rfl ?_
  refine ⟨vp_in_iff.mpr (by decide), ?_⟩
  refine nm_r (e' := (0 : Int32)) (by decide) ?_
  refine ⟨vp_in_iff.mpr (by decide), ?_⟩
  refine nm_r (e' := (0 : Int32)) rfl ?_
  refine ⟨vp_in_iff.mpr (by decide), vp_in_iff.mpr (by decide), ?_⟩
  refine nm_e ?_
  refine br_t rfl ?_
  unfold wX_compileExpression_69
  refine nm_r (e' := (0 : Int32)) (by decide) ?_
  refine br_t rfl ⟨vp_in_iff.mpr (by decide), ?_⟩
  refine bz_load 172 184 (q % 256) (q / 256) hn (fun hn => ?_) (by decide) hy1 hy2
  refine br_t (by decide) ?_
  refine br_f (by decide) ?_
  refine ⟨vp_in_iff.mpr (by decide), ?_⟩
  refine nm_r (e' := (5 : Int32)) (by decide) ?_
  refine bz_ibn5 0 (by decide) (by decide) ?_
  refine br_t rfl ⟨by decide, ?_⟩
  refine bz_ff0 (show (1 : Int32) = 5 / 5 by decide) (by decide) (by decide) ?_
  refine bz_off5 (by decide) ?_
  refine bz_touch 175 137 70 6 hn rfl (fun hn => ?_)
  exact h _ _ _ hn
theorem bz_pr1_13 (hy1 : (y &&& 255).toInt8.toInt32 = bz_b (q % 256)) (hy2 : ((y >>> ((8 : Int32) &&& 31)) &&& 255).toInt8.toInt32 = bz_b (q / 256)) (hn : 32 + (bz_k1_13).length = 142) (h : ∀ (e7 e8 e9 : Int32) (e13 e14 e16 e17 : Nat → Int32), post (2, 2, 2, 0, nI 185, nI 76, e7, e8, e9, k10, k11, k12, k13, k14, k15, k16, k17, k18, bz_a1, bz_a2 1, bz_a3, bz_a4, bz_a5 y 3, bz_a6, bz_a7, bz_a8, bz_a9, bz_a10, bz_a11, bz_a12, e13, e14, a15, e16, e17, bz_mem st ac (bz_cd0 252 q) H, a19, a20, a21)) : wpX_compileProcedure post (2, 2, 2, 0, nI 142, nI 76, k7, k8, k9, k10, k11, k12, k13, k14, k15, k16, k17, k18, bz_a1, bz_a2 1, bz_a3, bz_a4, bz_a5 y 3, bz_a6, bz_a7, bz_a8, bz_a9, bz_a10, bz_a11, bz_a12, a13, a14, a15, a16, a17, bz_mem st ac (bz_k1_13) H, a19, a20, a21) 1 := by
  unfold wpX_compileProcedure
  refine bz_setWC 2 142 0 hn (fun hn => ?_)
  refine bz_put 143 85 hn (fun hn => ?_)
  refine bz_put2 145 139 236 hn (fun hn => ?_)
  refine bz_put2 147 131 62 hn (fun hn => ?_)
  refine bz_putWord 149 4 0 hn (fun hn => ?_)
  refine bz_put 150 12 hn (fun hn => ?_)
  refine bz_put2 152 124 5 hn (fun hn => ?_)
  refine bz_stop 157 2 0 hn (fun hn => ?_)
  refine bz_put2 159 255 6 hn (fun hn => ?_)
  refine bz_putWord 161 4 0 hn (fun hn => ?_)
  refine bz_put2 163 51 192 hn (fun hn => ?_)
  refine bz_put3 166 80 80 80 hn (fun hn => ?_)
  refine ⟨vp_in_iff.mpr (by decide), ?_⟩
  unfold wpX_compileState
  refine bz_enterState 0 ?_
  refine Exists.intro 2 ?_
  refine br_f (by decide) ?_
  refine nm_r (e' := (0 : Int32)) (by decide) ?_
  refine ⟨vp_in_iff.mpr (by decide), ?_⟩
  refine nm_r (e' := (0 : Int32)) rfl ?_
  refine ⟨vp_in_iff.mpr (by decide), ?_⟩
  refine nm_r (e' := (0 : Int32)) (by decide) ?_
  refine ⟨vp_in_iff.mpr (by decide), ?_⟩
  refine nm_r (e' := (0 : Int32)) rfl ?_
  refine ⟨vp_in_iff.mpr (by decide), vp_in_iff.mpr (by decide), ?_⟩
  refine nm_e ?_
  refine br_f (by decide) ?_
  refine br_f (by decide) ?_
  refine br_f (by decide) ?_
  refine nm_r (e' := (0 : Int32)) (by decide) ?_
  refine bz_cp1_13 hy1 hy2 hn (fun e9 e16 e17 hn => ?_)
  refine br_t (by decide) ?_
  refine bz_put2 177 139 229 hn (fun hn => ?_)
  refine bz_put2 179 255 14 hn (fun hn => ?_)
  refine bz_putWord 181 4 0 hn (fun hn => ?_)
  refine bz_put 182 93 hn (fun hn => ?_)
  refine bz_put 183 194 hn (fun hn => ?_)
  unfold wpX_sizeOf
  refine bz_mode0 1 1 (by decide) (by decide) rfl (by decide) ?_
  refine br_f (by decide) ?_
  refine bz_mode1 1 0 (by decide) (by decide) (by decide) (by decide) ?_
  refine br_f (by decide) ?_
  refine nm_r (e' := (4 : Int32)) (by decide) ?_
  refine bz_putWord 185 4 0 hn (fun hn => ?_)
  have e : (((((((((((((((((((((((bz_k1_13.set 2 142).set 3 0) ++ [85]) ++ [139, 236]) ++ [131, 62]) ++ [4, 0]) ++ [12]) ++ [124, 5]) ++ [184, 2, 0, 205, 0]) ++ [255, 6]) ++ [4, 0]) ++ [51, 192]) ++ [80, 80, 80]) ++ [232, 163, 255]) ++ [184, q % 256, q / 256]) ++ [137, 70, 6])) ++ [139, 229]) ++ [255, 14]) ++ [4, 0]) ++ [93]) ++ [194]) ++ [4, 0]) = bz_cd0 252 q := by simp only [List.append_assoc]; rfl
  rw [e]
  exact h _ _ _ _ _ _ _
theorem bz_co_13 (hy1 : (y &&& 255).toInt8.toInt32 = bz_b (q % 256)) (hy2 : ((y >>> ((8 : Int32) &&& 31)) &&& 255).toInt8.toInt32 = bz_b (q / 256)) (h : ∀ (e5 e6 e7 e8 e9 : Int32) (e13 e14 e16 e17 : Nat → Int32), post (2, 2, 2, 0, e5, e6, e7, e8, e9, k10, k11, k12, k13, k14, k15, k16, k17, k18, bz_a1, bz_a2 1, bz_a3, bz_a4, bz_a5 y 3, bz_a6, bz_a7, bz_a8, bz_a9, bz_a10, bz_a11, bz_a12, e13, e14, a15, e16, e17, bz_mem st ac (bz_cd0 252 q) H, a19, a20, a21)) : wpX_compile post (2, 2, 2, k4, k5, k6, k7, k8, k9, k10, k11, k12, k13, k14, k15, k16, k17, k18, bz_a1, bz_a2 1, bz_a3, bz_a4, bz_a5 y 3, bz_a6, bz_a7, bz_a8, bz_a9, bz_a10, bz_a11, bz_a12, a13, a14, a15, a16, a17, bz_mem st ac [0, 0, 0, 0, 0, 0, 0, 0, 0, 0, 0, 0, 0, 0, 0, 0, 0, 0, 0, 0, 0, 0, 0, 0, 0, 0, 0, 0, 0, 0, 0, 0] H, a19, a20, a21) := by
  unfold wpX_compile
  refine bz_put (n := 64) 65 80 rfl (fun hn => ?_)
  refine bz_put2 67 139 54 hn (fun hn => ?_)
  refine bz_putWord 69 32 0 hn (fun hn => ?_)
  refine bz_put2 71 255 214 hn (fun hn => ?_)
  refine bz_stop 76 0 0 hn (fun hn => ?_)
  refine bz_put2 78 129 62 hn (fun hn => ?_)
  refine bz_putWord 80 2 0 hn (fun hn => ?_)
  refine bz_putWord 82 244 1 hn (fun hn => ?_)
  refine bz_put2 84 124 5 hn (fun hn => ?_)
  refine bz_stop 89 1 0 hn (fun hn => ?_)
  refine bz_put2 91 255 6 hn (fun hn => ?_)
  refine bz_putWord 93 2 0 hn (fun hn => ?_)
  refine bz_put 94 195 hn (fun hn => ?_)
  refine Exists.intro 3 ?_
  refine br_f (by decide) ?_
  have e : ((((((((((((([0, 0, 0, 0, 0, 0, 0, 0, 0, 0, 0, 0, 0, 0, 0, 0, 0, 0, 0, 0, 0, 0, 0, 0, 0, 0, 0, 0, 0, 0, 0, 0] ++ [80]) ++ [139, 54]) ++ [32, 0]) ++ [255, 214]) ++ [184, 0, 0, 205, 0]) ++ [129, 62]) ++ [2, 0]) ++ [244, 1]) ++ [124, 5]) ++ [184, 1, 0, 205, 0]) ++ [255, 6]) ++ [2, 0]) ++ [195]) = bz_k0 := by simp only [List.append_assoc]; rfl
  rw [e]
  refine bz_pr0_13 (by decide) (fun e7 e8 e9 e13 e14 e16 e17 => ?_)
  refine nm_r (e' := (1 : Int32)) (by decide) ?_
  refine br_f (by decide) ?_
  refine bz_pr1_13 hy1 hy2 (by decide) (fun e7 e8 e9 e13 e14 e16 e17 => ?_)
  refine nm_r (e' := (2 : Int32)) (by decide) ?_
  refine br_t (by decide) ?_
  exact h _ _ _ _ _ _ _ _ _
def bz_k1_14 : List Nat := [94, 0, 0, 0, 0, 0, 0, 0, 0, 0, 0, 0, 0, 0, 0, 0, 0, 0, 0, 0, 0, 0, 0, 0, 0, 0, 0, 0, 0, 0, 0, 0, 80, 139, 54, 32, 0, 255, 214, 184, 0, 0, 205, 0, 129, 62, 2, 0, 244, 1, 124, 5, 184, 1, 0, 205, 0, 255, 6, 2, 0, 195, 85, 139, 236, 131, 62, 4, 0, 12, 124, 5, 184, 2, 0, 205, 0, 255, 6, 4, 0, 51, 192, 80, 80, 80, 232, 211, 255, 139, 70, 250, 80, 85, 139, 54, 34, 0, 255, 214, 139, 229, 255, 14, 4, 0, 93, 194, 2, 0]
theorem bz_cp0_14 (hn : 32 + C.length = 118) (h : ∀ (e9 : Int32) (e16 e17 : Nat → Int32), 32 + (((((((C ++ [232, 211, 255]) ++ [139, 70, 250]) ++ [80]) ++ [85]) ++ [139, 54]) ++ [34, 0]) ++ [255, 214]).length = 132 → post (2, 2, 2, 0, nI 132, nI 76, 0, 0, e9, k10, k11, k12, k13, k14, k15, k16, k17, k18, bz_a1, bz_a2 1, bz_a3, bz_a4, bz_a5 y 4, bz_a6, bz_a7, bz_a8, bz_a9, bz_a10, bz_a11, bz_a12, a13, a14, a15, e16, e17, bz_mem st ac (((((((C ++ [232, 211, 255]) ++ [139, 70, 250]) ++ [80]) ++ [85]) ++ [139, 54]) ++ [34, 0]) ++ [255, 214]) H, a19, a20, a21)) : wpX_compilePlain post (2, 2, 2, 0, nI 118, nI 76, 0, 0, k9, k10, k11, k12, k13, k14, k15, k16, k17, k18, bz_a1, bz_a2 1, bz_a3, bz_a4, bz_a5 y 4, bz_a6, bz_a7, bz_a8, bz_a9, bz_a10, bz_a11, bz_a12, a13, a14, a15, a16, a17, bz_mem st ac C H, a19, a20, a21) 1 5 := by
  unfold wpX_compilePlain
  refine br_f (by decide) ?_
  refine bz_callTo 121 211 255 hn (fun hn => ?_)
  refine br_t rfl ?_
  unfold wpX_compileCall
  refine ⟨vp_in_iff.mpr (by decide), ?_⟩
  refine nm_r (e' := (1 : Int32)) (by decide) ?_
  refine Exists.intro 3 ?_
  refine br_f (by decide) ?_
  refine bz_mode0 1 1 (by decide) (by decide) rfl (by decide) ?_
  refine br_f (by decide) ?_
  refine br_t rfl ?_
  refine ⟨vp_in_iff.mpr (by decide), ?_⟩
  unfold wX_compileCall_50 wpX_compileArgument
  refine br_f (by decide) ?_
  unfold wpX_compileExpression
  refine bz_enterExpr 1 ?_
  refine Exists.intro 2 ?_
  refine br_f (by decide) ?_
  refine nm_r (e' := (0 : Int32)) (by decide) ?_
  refine ⟨vp_in_iff.mpr (by decide), ?_⟩
  refine nm_r (e' := (1 : Int32)) rfl ?_
  refine ⟨vp_in_iff.mpr (by decide), ?_⟩
  refine nm_r (e' := (1 : Int32)) (by decide) ?_
  refine ⟨vp_in_iff.mpr (by decide), ?_⟩
  refine nm_r (e' := (0 : Int32)) rfl ?_
  refine ⟨vp_in_iff.mpr (by decide), vp_in_iff.mpr (by decide), ?_⟩
  refine nm_e ?_
  refine br_f (by decide) ?_
  refine br_t rfl ?_
  unfold wX_compileExpression_69
  refine nm_r (e' := (0 : Int32)) (by decide) ?_
  refine br_f (by decide) ⟨vp_in_iff.mpr (by decide), ?_⟩
  unfold wpX_loadVariable
  refine bz_ibnL 4 rfl (by decide) ?_
  refine br_t rfl ⟨by decide, ?_⟩
  refine bz_ff0 (show (0 : Int32) = 4 / 5 by decide) (by decide) (by decide) ?_
  refine bz_offL 4 (-6) rfl (by decide) (by decide) ?_
  refine bz_touch 124 139 70 250 hn rfl (fun hn => ?_)
  refine br_t (by decide) ?_
  unfold wX_compileArgument_31
  refine bz_put 125 80 hn (fun hn => ?_)
  refine nm_r (e' := (1 : Int32)) (by decide) ?_
  refine br_f (by decide) ?_
  refine bz_mode1 1 0 (by decide) (by decide) (by decide) (by decide) ?_
  refine br_t rfl ?_
  refine nm_r (e' := (2 : Int32)) (by decide) ?_
  refine br_t (by decide) ?_
  refine ⟨vp_in_iff.mpr (by decide), ?_⟩
  refine bz_ff0 (show (0 : Int32) = bz_a1 1 by decide) (by decide) (by decide) ?_
  refine br_t rfl ?_
  refine bz_put 126 85 hn (fun hn => ?_)
  unfold wX_compileCall_89
  refine bz_put2 128 139 54 hn (fun hn => ?_)
  refine bz_putWord 130 34 0 hn (fun hn => ?_)
  refine bz_put2 132 255 214 hn (fun hn => ?_)
  exact h _ _ _ hn
theorem bz_pr0_14 (hn : 32 + (bz_k0).length = 94) (h : ∀ (e7 e8 e9 : Int32) (e13 e14 e16 e17 : Nat → Int32), post (2, 2, 2, 0, nI 142, nI 76, e7, e8, e9, k10, k11, k12, k13, k14, k15, k16, k17, k18, bz_a1, bz_a2 1, bz_a3, bz_a4, bz_a5 y 4, bz_a6, bz_a7, bz_a8, bz_a9, bz_a10, bz_a11, bz_a12, e13, e14, a15, e16, e17, bz_mem st ac (bz_k1_14) H, a19, a20, a21)) : wpX_compileProcedure post (2, 2, 2, 0, nI 94, nI 76, k7, k8, k9, k10, k11, k12, k13, k14, k15, k16, k17, k18, bz_a1, bz_a2 1, bz_a3, bz_a4, bz_a5 y 4, bz_a6, bz_a7, bz_a8, bz_a9, bz_a10, bz_a11, bz_a12, a13, a14, a15, a16, a17, bz_mem st ac (bz_k0) H, a19, a20, a21) 0 := by
  unfold wpX_compileProcedure
  refine bz_setWC 0 94 0 hn (fun hn => ?_)
  refine bz_put 95 85 hn (fun hn => ?_)
  refine bz_put2 97 139 236 hn (fun hn => ?_)
  refine bz_put2 99 131 62 hn (fun hn => ?_)
  refine bz_putWord 101 4 0 hn (fun hn => ?_)
  refine bz_put 102 12 hn (fun hn => ?_)
  refine bz_put2 104 124 5 hn (fun hn => ?_)
  refine bz_stop 109 2 0 hn (fun hn => ?_)
  refine bz_put2 111 255 6 hn (fun hn => ?_)
  refine bz_putWord 113 4 0 hn (fun hn => ?_)
  refine bz_put2 115 51 192 hn (fun hn => ?_)
  refine bz_put3 118 80 80 80 hn (fun hn => ?_)
  refine ⟨vp_in_iff.mpr (by decide), ?_⟩
  unfold wpX_compileState
  refine bz_enterState 1 ?_
  refine Exists.intro 2 ?_
  refine br_f (by decide) ?_
  refine nm_r (e' := (0 : Int32)) (by decide) ?_
  refine ⟨vp_in_iff.mpr (by decide), ?_⟩
  refine nm_r (e' := (1 : Int32)) rfl ?_
  refine ⟨vp_in_iff.mpr (by decide), ?_⟩
  refine nm_r (e' := (5 : Int32)) (by decide) ?_
  refine ⟨vp_in_iff.mpr (by decide), ?_⟩
  refine nm_r (e' := (0 : Int32)) rfl ?_
  refine ⟨vp_in_iff.mpr (by decide), vp_in_iff.mpr (by decide), ?_⟩
  refine nm_e ?_
  refine br_f (by decide) ?_
  refine br_f (by decide) ?_
  refine br_f (by decide) ?_
  refine nm_r (e' := (0 : Int32)) (by decide) ?_
  refine bz_cp0_14 hn (fun e9 e16 e17 hn => ?_)
  refine br_t (by decide) ?_
  refine bz_put2 134 139 229 hn (fun hn => ?_)
  refine bz_put2 136 255 14 hn (fun hn => ?_)
  refine bz_putWord 138 4 0 hn (fun hn => ?_)
  refine bz_put 139 93 hn (fun hn => ?_)
  refine bz_put 140 194 hn (fun hn => ?_)
  unfold wpX_sizeOf
  refine bz_mode0 0 0 (by decide) (by decide) rfl (by decide) ?_
  refine br_f (by decide) ?_
  refine bz_mode1 0 0 (by decide) (by decide) (by decide) (by decide) ?_
  refine br_f (by decide) ?_
  refine nm_r (e' := (2 : Int32)) (by decide) ?_
  refine bz_putWord 142 2 0 hn (fun hn => ?_)
  have e : (((((((((((((((((((((((((((bz_k0.set 0 94).set 1 0) ++ [85]) ++ [139, 236]) ++ [131, 62]) ++ [4, 0]) ++ [12]) ++ [124, 5]) ++ [184, 2, 0, 205, 0]) ++ [255, 6]) ++ [4, 0]) ++ [51, 192]) ++ [80, 80, 80]) ++ [232, 211, 255]) ++ [139, 70, 250]) ++ [80]) ++ [85]) ++ [139, 54]) ++ [34, 0]) ++ [255, 214])) ++ [139, 229]) ++ [255, 14]) ++ [4, 0]) ++ [93]) ++ [194]) ++ [2, 0]) = bz_k1_14 := by simp only [List.append_assoc]; rfl
  rw [e]
  exact h _ _ _ _ _ _ _
theorem bz_cp1_14 (hy1 : (y &&& 255).toInt8.toInt32 = bz_b (q % 256)) (hy2 : ((y >>> ((8 : Int32) &&& 31)) &&& 255).toInt8.toInt32 = bz_b (q / 256)) (hn : 32 + C.length = 166) (h : ∀ (e9 : Int32) (e16 e17 : Nat → Int32), 32 + (((C ++ [232, 163, 255]) ++ [184, q % 256, q / 256]) ++ [137, 70, 6]).length = 175 → post (2, 2, 2, 0, nI 175, nI 76, 1, 0, e9, k10, k11, k12, k13, k14, k15, k16, k17, k18, bz_a1, bz_a2 1, bz_a3, bz_a4, bz_a5 y 4, bz_a6, bz_a7, bz_a8, bz_a9, bz_a10, bz_a11, bz_a12, a13, a14, a15, e16, e17, bz_mem st ac (((C ++ [232, 163, 255]) ++ [184, q % 256, q / 256]) ++ [137, 70, 6]) H, a19, a20, a21)) : wpX_compilePlain post (2, 2, 2, 0, nI 166, nI 76, 1, 0, k9, k10, k11, k12, k13, k14, k15, k16, k17, k18, bz_a1, bz_a2 1, bz_a3, bz_a4, bz_a5 y 4, bz_a6, bz_a7, bz_a8, bz_a9, bz_a10, bz_a11, bz_a12, a13, a14, a15, a16, a17, bz_mem st ac C H, a19, a20, a21) 0 0 := by
  unfold wpX_compilePlain
  refine br_f (by decide) ?_
  refine bz_callTo 169 163 255 hn (fun hn => ?_)
  refine br_f (by decide) ?_
  refine br_t rfl ?_
  refine ⟨vp_in_iff.mpr (by decide), ?_⟩
  unfold wX_compilePlain_46
  unfold wpX_compileExpression
  refine bz_enterExpr 0 ?_
  refine Exists.intro 2 ?_
  refine br_f (by decide) ?_
  refine nm_r (e' := (0 : Int32)) (by decide) ?_
  refine ⟨vp_in_iff.mpr (by decide), ?_⟩
  refine nm_r (e' := (0 : Int32)) rfl ?_
  refine ⟨vp_in_iff.mpr (by decide), ?_⟩
  refine nm_r (e' := (0 : Int32)) (by decide) ?_
  refine ⟨vp_in_iff.mpr (by decide), ?_⟩
  refine nm_r (e' := (0 : Int32)) rfl ?_
  refine ⟨vp_in_iff.mpr (by decide), vp_in_iff.mpr (by decide), ?_⟩
  refine nm_e ?_
  refine br_t rfl ?_
  unfold wX_compileExpression_69
  refine nm_r (e' := (0 : Int32)) (by decide) ?_
  refine br_t rfl ⟨vp_in_iff.mpr (by decide), ?_⟩
  refine bz_load 172 184 (q % 256) (q / 256) hn (fun hn => ?_) (by decide) hy1 hy2
  refine br_t (by decide) ?_
  refine br_f (by decide) ?_
  refine ⟨vp_in_iff.mpr (by decide), ?_⟩
  refine nm_r (e' := (5 : Int32)) (by decide) ?_
  refine bz_ibn5 0 (by decide) (by decide) ?_
  refine br_t rfl ⟨by decide, ?_⟩
  refine bz_ff0 (show (1 : Int32) = 5 / 5 by decide) (by decide) (by decide) ?_
  refine bz_off5 (by decide) ?_
  refine bz_touch 175 137 70 6 hn rfl (fun hn => ?_)
  exact h _ _ _ hn
theorem bz_pr1_14 (hy1 : (y &&& 255).toInt8.toInt32 = bz_b (q % 256)) (hy2 : ((y >>> ((8 : Int32) &&& 31)) &&& 255).toInt8.toInt32 = bz_b (q / 256)) (hn : 32 + (bz_k1_14).length = 142) (h : ∀ (e7 e8 e9 : Int32) (e13 e14 e16 e17 : Nat → Int32), post (2, 2, 2, 0, nI 185, nI 76, e7, e8, e9, k10, k11, k12, k13, k14, k15, k16, k17, k18, bz_a1, bz_a2 1, bz_a3, bz_a4, bz_a5 y 4, bz_a6, bz_a7, bz_a8, bz_a9, bz_a10, bz_a11, bz_a12, e13, e14, a15, e16, e17, bz_mem st ac (bz_cd0 250 q) H, a19, a20, a21)) : wpX_compileProcedure post (2, 2, 2, 0, nI 142, nI 76, k7, k8, k9, k10, k11, k12, k13, k14, k15, k16, k17, k18, bz_a1, bz_a2 1, bz_a3, bz_a4, bz_a5 y 4, bz_a6, bz_a7, bz_a8, bz_a9, bz_a10, bz_a11, bz_a12, a13, a14, a15, a16, a17, bz_mem st ac (bz_k1_14) H, a19, a20, a21) 1 := by
  unfold wpX_compileProcedure
  refine bz_setWC 2 142 0 hn (fun hn => ?_)
  refine bz_put 143 85 hn (fun hn => ?_)
  refine bz_put2 145 139 236 hn (fun hn => ?_)
  refine bz_put2 147 131 62 hn (fun hn => ?_)
  refine bz_putWord 149 4 0 hn (fun hn => ?_)
  refine bz_put 150 12 hn (fun hn => ?_)
  refine bz_put2 152 124 5 hn (fun hn => ?_)
  refine bz_stop 157 2 0 hn (fun hn => ?_)
  refine bz_put2 159 255 6 hn (fun hn => ?_)
  refine bz_putWord 161 4 0 hn (fun hn => ?_)
  refine bz_put2 163 51 192 hn (fun hn => ?_)
  refine bz_put3 166 80 80 80 hn (fun hn => ?_)
  refine ⟨vp_in_iff.mpr (by decide), ?_⟩
  unfold wpX_compileState
  refine bz_enterState 0 ?_
  refine Exists.intro 2 ?_
  refine br_f (by decide) ?_
  refine nm_r (e' := (0 : Int32)) (by decide) ?_
  refine ⟨vp_in_iff.mpr (by decide), ?_⟩
  refine nm_r (e' := (0 : Int32)) rfl ?_
  refine ⟨vp_in_iff.mpr (by decide), ?_⟩
  refine nm_r (e' := (0 : Int32)) (by decide) ?_
  refine ⟨vp_in_iff.mpr (by decide), ?_⟩
  refine nm_r (e' := (0 : Int32)) rfl ?_
  refine ⟨vp_in_iff.mpr (by decide), vp_in_iff.mpr (by decide), ?_⟩
  refine nm_e ?_
  refine br_f (by decide) ?_
  refine br_f (by decide) ?_
  refine br_f (by decide) ?_
  refine nm_r (e' := (0 : Int32)) (by decide) ?_
  refine bz_cp1_14 hy1 hy2 hn (fun e9 e16 e17 hn => ?_)
  refine br_t (by decide) ?_
  refine bz_put2 177 139 229 hn (fun hn => ?_)
  refine bz_put2 179 255 14 hn (fun hn => ?_)
  refine bz_putWord 181 4 0 hn (fun hn => ?_)
  refine bz_put 182 93 hn (fun hn => ?_)
  refine bz_put 183 194 hn (fun hn => ?_)
  unfold wpX_sizeOf
  refine bz_mode0 1 1 (by decide) (by decide) rfl (by decide) ?_
  refine br_f (by decide) ?_
  refine bz_mode1 1 0 (by decide) (by decide) (by decide) (by decide) ?_
  refine br_f (by decide) ?_
  refine nm_r (e' := (4 : Int32)) (by decide) ?_
  refine bz_putWord 185 4 0 hn (fun hn => ?_)
  have e : (((((((((((((((((((((((bz_k1_14.set 2 142).set 3 0) ++ [85]) ++ [139, 236]) ++ [131, 62]) ++ [4, 0]) ++ [12]) ++ [124, 5]) ++ [184, 2, 0, 205, 0]) ++ [255, 6]) ++ [4, 0]) ++ [51, 192]) ++ [80, 80, 80]) ++ [232, 163, 255]) ++ [184, q % 256, q / 256]) ++ [137, 70, 6])) ++ [139, 229]) ++ [255, 14]) ++ [4, 0]) ++ [93]) ++ [194]) ++ [4, 0]) = bz_cd0 250 q := by simp only [List.append_assoc]; rfl
  rw [e]
  exact h _ _ _ _ _ _ _
theorem bz_co_14 (hy1 : (y &&& 255).toInt8.toInt32 = bz_b (q % 256)) (hy2 : ((y >>> ((8 : Int32) &&& 31)) &&& 255).toInt8.toInt32 = bz_b (q / 256)) (h : ∀ (e5 e6 e7 e8 e9 : Int32) (e13 e14 e16 e17 : Nat → Int32), post (2, 2, 2, 0, e5, e6, e7, e8, e9, k10, k11, k12, k13, k14, k15, k16, k17, k18, bz_a1, bz_a2 1, bz_a3, bz_a4, bz_a5 y 4, bz_a6, bz_a7, bz_a8, bz_a9, bz_a10, bz_a11, bz_a12, e13, e14, a15, e16, e17, bz_mem st ac (bz_cd0 250 q) H, a19, a20, a21)) : wpX_compile post (2, 2, 2, k4, k5, k6, k7, k8, k9, k10, k11, k12, k13, k14, k15, k16, k17, k18, bz_a1, bz_a2 1, bz_a3, bz_a4, bz_a5 y 4, bz_a6, bz_a7, bz_a8, bz_a9, bz_a10, bz_a11, bz_a12, a13, a14, a15, a16, a17, bz_mem st ac [0, 0, 0, 0, 0, 0, 0, 0, 0, 0, 0, 0, 0, 0, 0, 0, 0, 0, 0, 0, 0, 0, 0, 0, 0, 0, 0, 0, 0, 0, 0, 0] H, a19, a20, a21) := by
  unfold wpX_compile
  refine bz_put (n := 64) 65 80 rfl (fun hn => ?_)
  refine bz_put2 67 139 54 hn (fun hn => ?_)
  refine bz_putWord 69 32 0 hn (fun hn => ?_)
  refine bz_put2 71 255 214 hn (fun hn => ?_)
  refine bz_stop 76 0 0 hn (fun hn => ?_)
  refine bz_put2 78 129 62 hn (fun hn => ?_)
  refine bz_putWord 80 2 0 hn (fun hn => ?_)
  refine bz_putWord 82 244 1 hn (fun hn => ?_)
  refine bz_put2 84 124 5 hn (fun hn => ?_)
  refine bz_stop 89 1 0 hn (fun hn => ?_)
  refine bz_put2 91 255 6 hn (fun hn => ?_)
  refine bz_putWord 93 2 0 hn (fun hn => ?_)
  refine bz_put 94 195 hn (fun hn => ?_)
  refine Exists.intro 3 ?_
  refine br_f (by decide) ?_
  have e : ((((((((((((([0, 0, 0, 0, 0, 0, 0, 0, 0, 0, 0, 0, 0, 0, 0, 0, 0, 0, 0, 0, 0, 0, 0, 0, 0, 0, 0, 0, 0, 0, 0, 0] ++ [80]) ++ [139, 54]) ++ [32, 0]) ++ [255, 214]) ++ [184, 0, 0, 205, 0]) ++ [129, 62]) ++ [2, 0]) ++ [244, 1]) ++ [124, 5]) ++ [184, 1, 0, 205, 0]) ++ [255, 6]) ++ [2, 0]) ++ [195]) = bz_k0 := by simp only [List.append_assoc]; rfl
  rw [e]
  refine bz_pr0_14 (by decide) (fun e7 e8 e9 e13 e14 e16 e17 => ?_)
  refine nm_r (e' := (1 : Int32)) (by decide) ?_
  refine br_f (by decide) ?_
  refine bz_pr1_14 hy1 hy2 (by decide) (fun e7 e8 e9 e13 e14 e16 e17 => ?_)
  refine nm_r (e' := (2 : Int32)) (by decide) ?_
  refine br_t (by decide) ?_
  exact h _ _ _ _ _ _ _ _ _
def bz_k1_22 : List Nat := [94, 0, 0, 0, 0, 0, 0, 0, 0, 0, 0, 0, 0, 0, 0, 0, 0, 0, 0, 0, 0, 0, 0, 0, 0, 0, 0, 0, 0, 0, 0, 0, 80, 139, 54, 32, 0, 255, 214, 184, 0, 0, 205, 0, 129, 62, 2, 0, 244, 1, 124, 5, 184, 1, 0, 205, 0, 255, 6, 2, 0, 195, 85, 139, 236, 131, 62, 4, 0, 12, 124, 5, 184, 2, 0, 205, 0, 255, 6, 4, 0, 51, 192, 80, 80, 80, 232, 211, 255, 233, 10, 0, 141, 94, 254, 11, 201, 117, 2, 139, 7, 195, 85, 184, 124, 0, 80, 85, 139, 54, 34, 0, 255, 214, 139, 229, 255, 14, 4, 0, 93, 194, 2, 0]
theorem bz_cp0_22 (hn : 32 + C.length = 118) (h : ∀ (e9 : Int32) (e16 e17 : Nat → Int32), 32 + ((((((((((((((((C ++ [232, 211, 255]) ++ [233, 0, 0]) ++ [141, 94, 254]) ++ [11, 201]) ++ [117, 2]) ++ [139, 7]) ++ [195]).set 90 10).set 91 0) ++ [85]) ++ [184, 124, 0]) ++ [80]) ++ [85]) ++ [139, 54]) ++ [34, 0]) ++ [255, 214]).length = 146 → post (2, 2, 2, 0, nI 146, nI 76, 0, 0, e9, k10, k11, k12, k13, k14, k15, k16, k17, k18, bz_a1, bz_a2 2, bz_a3, bz_a4, bz_a5 y 2, bz_a6, bz_a7, bz_a8, bz_a9, bz_a10, bz_a11, bz_a12, a13, a14, a15, e16, e17, bz_mem st ac ((((((((((((((((C ++ [232, 211, 255]) ++ [233, 0, 0]) ++ [141, 94, 254]) ++ [11, 201]) ++ [117, 2]) ++ [139, 7]) ++ [195]).set 90 10).set 91 0) ++ [85]) ++ [184, 124, 0]) ++ [80]) ++ [85]) ++ [139, 54]) ++ [34, 0]) ++ [255, 214]) H, a19, a20, a21)) : wpX_compilePlain post (2, 2, 2, 0, nI 118, nI 76, 0, 0, k9, k10, k11, k12, k13, k14, k15, k16, k17, k18, bz_a1, bz_a2 2, bz_a3, bz_a4, bz_a5 y 2, bz_a6, bz_a7, bz_a8, bz_a9, bz_a10, bz_a11, bz_a12, a13, a14, a15, a16, a17, bz_mem st ac C H, a19, a20, a21) 1 5 := by
  unfold wpX_compilePlain
  refine br_f (by decide) ?_
  refine bz_callTo 121 211 255 hn (fun hn => ?_)
  refine br_t rfl ?_
  unfold wpX_compileCall
  refine ⟨vp_in_iff.mpr (by decide), ?_⟩
  refine nm_r (e' := (1 : Int32)) (by decide) ?_
  refine Exists.intro 3 ?_
  refine br_f (by decide) ?_
  refine bz_mode0 1 2 (by decide) (by decide) rfl (by decide) ?_
  refine br_f (by decide) ?_
  refine br_t rfl ?_
  refine ⟨vp_in_iff.mpr (by decide), ?_⟩
  unfold wX_compileCall_50 wpX_compileArgument
  refine br_t rfl ?_
  unfold wpX_compileRoutine
  refine bz_jumpF 124 hn (fun hn => ?_)
  refine ⟨vp_in_iff.mpr (by decide), br_t (by decide) ⟨vp_in_iff.mpr (by decide), ?_⟩⟩
  refine bz_ibnL 2 rfl (by decide) ?_
  refine br_t rfl ⟨vp_in_iff.mpr (by decide), ?_⟩
  unfold wpX_compilePlace
  refine bz_offL 2 (-2) rfl (by decide) (by decide) ?_
  refine ⟨by decide, ?_⟩
  refine bz_ff0 (show (0 : Int32) = 2 / 5 by decide) (by decide) (by decide) ?_
  refine br_t rfl ?_
  refine bz_put3 127 141 94 254 hn (fun hn => ?_)
  unfold wX_compilePlace_40
  refine bz_put2 129 11 201 hn (fun hn => ?_)
  refine bz_put2 131 117 2 hn (fun hn => ?_)
  refine bz_put2 133 139 7 hn (fun hn => ?_)
  unfold wX_compileRoutine_86
  refine bz_put 134 195 hn (fun hn => ?_)
  unfold wpX_land
  refine bz_setWC 90 10 0 hn (fun hn => ?_)
  refine bz_put 135 85 hn (fun hn => ?_)
  refine bz_load 138 184 124 0 hn (fun hn => ?_)
  unfold wX_compileArgument_31
  refine bz_put 139 80 hn (fun hn => ?_)
  refine nm_r (e' := (1 : Int32)) (by decide) ?_
  refine br_f (by decide) ?_
  refine bz_mode1 1 0 (by decide) (by decide) (by decide) (by decide) ?_
  refine br_t rfl ?_
  refine nm_r (e' := (2 : Int32)) (by decide) ?_
  refine br_t (by decide) ?_
  refine ⟨vp_in_iff.mpr (by decide), ?_⟩
  refine bz_ff0 (show (0 : Int32) = bz_a1 1 by decide) (by decide) (by decide) ?_
  refine br_t rfl ?_
  refine bz_put 140 85 hn (fun hn => ?_)
  unfold wX_compileCall_89
  refine bz_put2 142 139 54 hn (fun hn => ?_)
  refine bz_putWord 144 34 0 hn (fun hn => ?_)
  refine bz_put2 146 255 214 hn (fun hn => ?_)
  exact h _ _ _ hn
theorem bz_pr0_22 (hn : 32 + (bz_k0).length = 94) (h : ∀ (e7 e8 e9 : Int32) (e13 e14 e16 e17 : Nat → Int32), post (2, 2, 2, 0, nI 156, nI 76, e7, e8, e9, k10, k11, k12, k13, k14, k15, k16, k17, k18, bz_a1, bz_a2 2, bz_a3, bz_a4, bz_a5 y 2, bz_a6, bz_a7, bz_a8, bz_a9, bz_a10, bz_a11, bz_a12, e13, e14, a15, e16, e17, bz_mem st ac (bz_k1_22) H, a19, a20, a21)) : wpX_compileProcedure post (2, 2, 2, 0, nI 94, nI 76, k7, k8, k9, k10, k11, k12, k13, k14, k15, k16, k17, k18, bz_a1, bz_a2 2, bz_a3, bz_a4, bz_a5 y 2, bz_a6, bz_a7, bz_a8, bz_a9, bz_a10, bz_a11, bz_a12, a13, a14, a15, a16, a17, bz_mem st ac (bz_k0) H, a19, a20, a21) 0 := by
  unfold wpX_compileProcedure
  refine bz_setWC 0 94 0 hn (fun hn => ?_)
  refine bz_put 95 85 hn (fun hn => ?_)
  refine bz_put2 97 139 236 hn (fun hn => ?_)
  refine bz_put2 99 131 62 hn (fun hn => ?_)
  refine bz_putWord 101 4 0 hn (fun hn => ?_)
  refine bz_put 102 12 hn (fun hn => ?_)
  refine bz_put2 104 124 5 hn (fun hn => ?_)
  refine bz_stop 109 2 0 hn (fun hn => ?_)
  refine bz_put2 111 255 6 hn (fun hn => ?_)
  refine bz_putWord 113 4 0 hn (fun hn => ?_)
  refine bz_put2 115 51 192 hn (fun hn => ?_)
  refine bz_put3 118 80 80 80 hn (fun hn => ?_)
  refine ⟨vp_in_iff.mpr (by decide), ?_⟩
  unfold wpX_compileState
  refine bz_enterState 1 ?_
  refine Exists.intro 2 ?_
  refine br_f (by decide) ?_
  refine nm_r (e' := (0 : Int32)) (by decide) ?_
  refine ⟨vp_in_iff.mpr (by decide), ?_⟩
  refine nm_r (e' := (1 : Int32)) rfl ?_
  refine ⟨vp_in_iff.mpr (by decide), ?_⟩
  refine nm_r (e' := (5 : Int32)) (by decide) ?_
  refine ⟨vp_in_iff.mpr (by decide), ?_⟩
  refine nm_r (e' := (0 : Int32)) rfl ?_
  refine ⟨vp_in_iff.mpr (by decide), vp_in_iff.mpr (by decide), ?_⟩
  refine nm_e ?_
  refine br_f (by decide) ?_
  refine br_f (by decide) ?_
  refine br_f (by decide) ?_
  refine nm_r (e' := (0 : Int32)) (by decide) ?_
  refine bz_cp0_22 hn (fun e9 e16 e17 hn => ?_)
  refine br_t (by decide) ?_
  refine bz_put2 148 139 229 hn (fun hn => ?_)
  refine bz_put2 150 255 14 hn (fun hn => ?_)
  refine bz_putWord 152 4 0 hn (fun hn => ?_)
  refine bz_put 153 93 hn (fun hn => ?_)
  refine bz_put 154 194 hn (fun hn => ?_)
  unfold wpX_sizeOf
  refine bz_mode0 0 0 (by decide) (by decide) rfl (by decide) ?_
  refine br_f (by decide) ?_
  refine bz_mode1 0 0 (by decide) (by decide) (by decide) (by decide) ?_
  refine br_f (by decide) ?_
  refine nm_r (e' := (2 : Int32)) (by decide) ?_
  refine bz_putWord 156 2 0 hn (fun hn => ?_)
  have e : ((((((((((((((((((((((((((((((((((((bz_k0.set 0 94).set 1 0) ++ [85]) ++ [139, 236]) ++ [131, 62]) ++ [4, 0]) ++ [12]) ++ [124, 5]) ++ [184, 2, 0, 205, 0]) ++ [255, 6]) ++ [4, 0]) ++ [51, 192]) ++ [80, 80, 80]) ++ [232, 211, 255]) ++ [233, 0, 0]) ++ [141, 94, 254]) ++ [11, 201]) ++ [117, 2]) ++ [139, 7]) ++ [195]).set 90 10).set 91 0) ++ [85]) ++ [184, 124, 0]) ++ [80]) ++ [85]) ++ [139, 54]) ++ [34, 0]) ++ [255, 214])) ++ [139, 229]) ++ [255, 14]) ++ [4, 0]) ++ [93]) ++ [194]) ++ [2, 0]) = bz_k1_22 := by simp only [List.append_assoc]; rfl
  rw [e]
  exact h _ _ _ _ _ _ _
theorem bz_cp1_22 (hy1 : (y &&& 255).toInt8.toInt32 = bz_b (q % 256)) (hy2 : ((y >>> ((8 : Int32) &&& 31)) &&& 255).toInt8.toInt32 = bz_b (q / 256)) (hn : 32 + C.length = 180) (h : ∀ (e9 : Int32) (e16 e17 : Nat → Int32), 32 + ((((((((((((C ++ [232, 149, 255]) ++ [184, q % 256, q / 256]) ++ [80]) ++ [232, 142, 255]) ++ [139, 118, 6]) ++ [85]) ++ [139, 110, 8]) ++ [185, 1, 0]) ++ [255, 214]) ++ [93]) ++ [88]) ++ [137, 7]).length = 206 → post (2, 2, 2, 0, nI 206, nI 76, 1, 0, e9, k10, k11, k12, k13, k14, k15, k16, k17, k18, bz_a1, bz_a2 2, bz_a3, bz_a4, bz_a5 y 2, bz_a6, bz_a7, bz_a8, bz_a9, bz_a10, bz_a11, bz_a12, a13, a14, a15, e16, e17, bz_mem st ac ((((((((((((C ++ [232, 149, 255]) ++ [184, q % 256, q / 256]) ++ [80]) ++ [232, 142, 255]) ++ [139, 118, 6]) ++ [85]) ++ [139, 110, 8]) ++ [185, 1, 0]) ++ [255, 214]) ++ [93]) ++ [88]) ++ [137, 7]) H, a19, a20, a21)) : wpX_compilePlain post (2, 2, 2, 0, nI 180, nI 76, 1, 0, k9, k10, k11, k12, k13, k14, k15, k16, k17, k18, bz_a1, bz_a2 2, bz_a3, bz_a4, bz_a5 y 2, bz_a6, bz_a7, bz_a8, bz_a9, bz_a10, bz_a11, bz_a12, a13, a14, a15, a16, a17, bz_mem st ac C H, a19, a20, a21) 0 0 := by
  unfold wpX_compilePlain
  refine br_f (by decide) ?_
  refine bz_callTo 183 149 255 hn (fun hn => ?_)
  refine br_f (by decide) ?_
  refine br_t rfl ?_
  refine ⟨vp_in_iff.mpr (by decide), ?_⟩
  unfold wX_compilePlain_46
  unfold wpX_compileExpression
  refine bz_enterExpr 0 ?_
  refine Exists.intro 2 ?_
  refine br_f (by decide) ?_
  refine nm_r (e' := (0 : Int32)) (by decide) ?_
  refine ⟨vp_in_iff.mpr (by decide), ?_⟩
  refine nm_r (e' := (0 : Int32)) rfl ?_
  refine ⟨vp_in_iff.mpr (by decide), ?_⟩
  refine nm_r (e' := (0 : Int32)) (by decide) ?_
  refine ⟨vp_in_iff.mpr (by decide), ?_⟩
  refine nm_r (e' := (0 : Int32)) rfl ?_
  refine ⟨vp_in_iff.mpr (by decide), vp_in_iff.mpr (by decide), ?_⟩
  refine nm_e ?_
  refine br_t rfl ?_
  unfold wX_compileExpression_69
  refine nm_r (e' := (0 : Int32)) (by decide) ?_
  refine br_t rfl ⟨vp_in_iff.mpr (by decide), ?_⟩
  refine bz_load 186 184 (q % 256) (q / 256) hn (fun hn => ?_) (by decide) hy1 hy2
  refine br_t (by decide) ?_
  refine br_f (by decide) ?_
  refine ⟨vp_in_iff.mpr (by decide), ?_⟩
  refine nm_r (e' := (5 : Int32)) (by decide) ?_
  refine bz_ibn5 1 (by decide) (by decide) ?_
  refine br_f (by decide) ?_
  refine bz_put 187 80 hn (fun hn => ?_)
  unfold wpX_useName
  refine bz_callTo 190 142 255 hn (fun hn => ?_)
  refine ⟨by decide, ?_⟩
  refine bz_ff0 (show (1 : Int32) = 5 / 5 by decide) (by decide) (by decide) ?_
  refine bz_off5 (by decide) ?_
  refine bz_touch 193 139 118 6 hn rfl (fun hn => ?_)
  refine bz_put 194 85 hn (fun hn => ?_)
  refine bz_touch 197 139 110 8 hn rfl (fun hn => ?_)
  refine br_f (by decide) ?_
  refine bz_load 200 185 1 0 hn (fun hn => ?_)
  unfold wX_useName_64
  refine bz_put2 202 255 214 hn (fun hn => ?_)
  refine bz_put 203 93 hn (fun hn => ?_)
  refine bz_put 204 88 hn (fun hn => ?_)
  refine bz_put2 206 137 7 hn (fun hn => ?_)
  exact h _ _ _ hn
theorem bz_pr1_22 (hy1 : (y &&& 255).toInt8.toInt32 = bz_b (q % 256)) (hy2 : ((y >>> ((8 : Int32) &&& 31)) &&& 255).toInt8.toInt32 = bz_b (q / 256)) (hn : 32 + (bz_k1_22).length = 156) (h : ∀ (e7 e8 e9 : Int32) (e13 e14 e16 e17 : Nat → Int32), post (2, 2, 2, 0, nI 216, nI 76, e7, e8, e9, k10, k11, k12, k13, k14, k15, k16, k17, k18, bz_a1, bz_a2 2, bz_a3, bz_a4, bz_a5 y 2, bz_a6, bz_a7, bz_a8, bz_a9, bz_a10, bz_a11, bz_a12, e13, e14, a15, e16, e17, bz_mem st ac (bz_cd1 254 q) H, a19, a20, a21)) : wpX_compileProcedure post (2, 2, 2, 0, nI 156, nI 76, k7, k8, k9, k10, k11, k12, k13, k14, k15, k16, k17, k18, bz_a1, bz_a2 2, bz_a3, bz_a4, bz_a5 y 2, bz_a6, bz_a7, bz_a8, bz_a9, bz_a10, bz_a11, bz_a12, a13, a14, a15, a16, a17, bz_mem st ac (bz_k1_22) H, a19, a20, a21) 1 := by
  unfold wpX_compileProcedure
  refine bz_setWC 2 156 0 hn (fun hn => ?_)
  refine bz_put 157 85 hn (fun hn => ?_)
  refine bz_put2 159 139 236 hn (fun hn => ?_)
  refine bz_put2 161 131 62 hn (fun hn => ?_)
  refine bz_putWord 163 4 0 hn (fun hn => ?_)
  refine bz_put 164 12 hn (fun hn => ?_)
  refine bz_put2 166 124 5 hn (fun hn => ?_)
  refine bz_stop 171 2 0 hn (fun hn => ?_)
  refine bz_put2 173 255 6 hn (fun hn => ?_)
  refine bz_putWord 175 4 0 hn (fun hn => ?_)
  refine bz_put2 177 51 192 hn (fun hn => ?_)
  refine bz_put3 180 80 80 80 hn (fun hn => ?_)
  refine ⟨vp_in_iff.mpr (by decide), ?_⟩
  unfold wpX_compileState
  refine bz_enterState 0 ?_
  refine Exists.intro 2 ?_
  refine br_f (by decide) ?_
  refine nm_r (e' := (0 : Int32)) (by decide) ?_
  refine ⟨vp_in_iff.mpr (by decide), ?_⟩
  refine nm_r (e' := (0 : Int32)) rfl ?_
  refine ⟨vp_in_iff.mpr (by decide), ?_⟩
  refine nm_r (e' := (0 : Int32)) (by decide) ?_
  refine ⟨vp_in_iff.mpr (by decide), ?_⟩
  refine nm_r (e' := (0 : Int32)) rfl ?_
  refine ⟨vp_in_iff.mpr (by decide), vp_in_iff.mpr (by decide), ?_⟩
  refine nm_e ?_
  refine br_f (by decide) ?_
  refine br_f (by decide) ?_
  refine br_f (by decide) ?_
  refine nm_r (e' := (0 : Int32)) (by decide) ?_
  refine bz_cp1_22 hy1 hy2 hn (fun e9 e16 e17 hn => ?_)
  refine br_t (by decide) ?_
  refine bz_put2 208 139 229 hn (fun hn => ?_)
  refine bz_put2 210 255 14 hn (fun hn => ?_)
  refine bz_putWord 212 4 0 hn (fun hn => ?_)
  refine bz_put 213 93 hn (fun hn => ?_)
  refine bz_put 214 194 hn (fun hn => ?_)
  unfold wpX_sizeOf
  refine bz_mode0 1 2 (by decide) (by decide) rfl (by decide) ?_
  refine br_t rfl ?_
  refine bz_mode1 1 0 (by decide) (by decide) (by decide) (by decide) ?_
  refine br_f (by decide) ?_
  refine nm_r (e' := (6 : Int32)) (by decide) ?_
  refine bz_putWord 216 6 0 hn (fun hn => ?_)
  have e : ((((((((((((((((((((((((((((((((bz_k1_22.set 2 156).set 3 0) ++ [85]) ++ [139, 236]) ++ [131, 62]) ++ [4, 0]) ++ [12]) ++ [124, 5]) ++ [184, 2, 0, 205, 0]) ++ [255, 6]) ++ [4, 0]) ++ [51, 192]) ++ [80, 80, 80]) ++ [232, 149, 255]) ++ [184, q % 256, q / 256]) ++ [80]) ++ [232, 142, 255]) ++ [139, 118, 6]) ++ [85]) ++ [139, 110, 8]) ++ [185, 1, 0]) ++ [255, 214]) ++ [93]) ++ [88]) ++ [137, 7])) ++ [139, 229]) ++ [255, 14]) ++ [4, 0]) ++ [93]) ++ [194]) ++ [6, 0]) = bz_cd1 254 q := by simp only [List.append_assoc]; rfl
  rw [e]
  exact h _ _ _ _ _ _ _
theorem bz_co_22 (hy1 : (y &&& 255).toInt8.toInt32 = bz_b (q % 256)) (hy2 : ((y >>> ((8 : Int32) &&& 31)) &&& 255).toInt8.toInt32 = bz_b (q / 256)) (h : ∀ (e5 e6 e7 e8 e9 : Int32) (e13 e14 e16 e17 : Nat → Int32), post (2, 2, 2, 0, e5, e6, e7, e8, e9, k10, k11, k12, k13, k14, k15, k16, k17, k18, bz_a1, bz_a2 2, bz_a3, bz_a4, bz_a5 y 2, bz_a6, bz_a7, bz_a8, bz_a9, bz_a10, bz_a11, bz_a12, e13, e14, a15, e16, e17, bz_mem st ac (bz_cd1 254 q) H, a19, a20, a21)) : wpX_compile post (2, 2, 2, k4, k5, k6, k7, k8, k9, k10, k11, k12, k13, k14, k15, k16, k17, k18, bz_a1, bz_a2 2, bz_a3, bz_a4, bz_a5 y 2, bz_a6, bz_a7, bz_a8, bz_a9, bz_a10, bz_a11, bz_a12, a13, a14, a15, a16, a17, bz_mem st ac [0, 0, 0, 0, 0, 0, 0, 0, 0, 0, 0, 0, 0, 0, 0, 0, 0, 0, 0, 0, 0, 0, 0, 0, 0, 0, 0, 0, 0, 0, 0, 0] H, a19, a20, a21) := by
  unfold wpX_compile
  refine bz_put (n := 64) 65 80 rfl (fun hn => ?_)
  refine bz_put2 67 139 54 hn (fun hn => ?_)
  refine bz_putWord 69 32 0 hn (fun hn => ?_)
  refine bz_put2 71 255 214 hn (fun hn => ?_)
  refine bz_stop 76 0 0 hn (fun hn => ?_)
  refine bz_put2 78 129 62 hn (fun hn => ?_)
  refine bz_putWord 80 2 0 hn (fun hn => ?_)
  refine bz_putWord 82 244 1 hn (fun hn => ?_)
  refine bz_put2 84 124 5 hn (fun hn => ?_)
  refine bz_stop 89 1 0 hn (fun hn => ?_)
  refine bz_put2 91 255 6 hn (fun hn => ?_)
  refine bz_putWord 93 2 0 hn (fun hn => ?_)
  refine bz_put 94 195 hn (fun hn => ?_)
  refine Exists.intro 3 ?_
  refine br_f (by decide) ?_
  have e : ((((((((((((([0, 0, 0, 0, 0, 0, 0, 0, 0, 0, 0, 0, 0, 0, 0, 0, 0, 0, 0, 0, 0, 0, 0, 0, 0, 0, 0, 0, 0, 0, 0, 0] ++ [80]) ++ [139, 54]) ++ [32, 0]) ++ [255, 214]) ++ [184, 0, 0, 205, 0]) ++ [129, 62]) ++ [2, 0]) ++ [244, 1]) ++ [124, 5]) ++ [184, 1, 0, 205, 0]) ++ [255, 6]) ++ [2, 0]) ++ [195]) = bz_k0 := by simp only [List.append_assoc]; rfl
  rw [e]
  refine bz_pr0_22 (by decide) (fun e7 e8 e9 e13 e14 e16 e17 => ?_)
  refine nm_r (e' := (1 : Int32)) (by decide) ?_
  refine br_f (by decide) ?_
  refine bz_pr1_22 hy1 hy2 (by decide) (fun e7 e8 e9 e13 e14 e16 e17 => ?_)
  refine nm_r (e' := (2 : Int32)) (by decide) ?_
  refine br_t (by decide) ?_
  exact h _ _ _ _ _ _ _ _ _
def bz_k1_23 : List Nat := [94, 0, 0, 0, 0, 0, 0, 0, 0, 0, 0, 0, 0, 0, 0, 0, 0, 0, 0, 0, 0, 0, 0, 0, 0, 0, 0, 0, 0, 0, 0, 0, 80, 139, 54, 32, 0, 255, 214, 184, 0, 0, 205, 0, 129, 62, 2, 0, 244, 1, 124, 5, 184, 1, 0, 205, 0, 255, 6, 2, 0, 195, 85, 139, 236, 131, 62, 4, 0, 12, 124, 5, 184, 2, 0, 205, 0, 255, 6, 4, 0, 51, 192, 80, 80, 80, 232, 211, 255, 233, 10, 0, 141, 94, 252, 11, 201, 117, 2, 139, 7, 195, 85, 184, 124, 0, 80, 85, 139, 54, 34, 0, 255, 214, 139, 229, 255, 14, 4, 0, 93, 194, 2, 0]
theorem bz_cp0_23 (hn : 32 + C.length = 118) (h : ∀ (e9 : Int32) (e16 e17 : Nat → Int32), 32 + ((((((((((((((((C ++ [232, 211, 255]) ++ [233, 0, 0]) ++ [141, 94, 252]) ++ [11, 201]) ++ [117, 2]) ++ [139, 7]) ++ [195]).set 90 10).set 91 0) ++ [85]) ++ [184, 124, 0]) ++ [80]) ++ [85]) ++ [139, 54]) ++ [34, 0]) ++ [255, 214]).length = 146 → post (2, 2, 2, 0, nI 146, nI 76, 0, 0, e9, k10, k11, k12, k13, k14, k15, k16, k17, k18, bz_a1, bz_a2 2, bz_a3, bz_a4, bz_a5 y 3, bz_a6, bz_a7, bz_a8, bz_a9, bz_a10, bz_a11, bz_a12, a13, a14, a15, e16, e17, bz_mem st ac ((((((((((((((((C ++ [232, 211, 255]) ++ [233, 0, 0]) ++ [141, 94, 252]) ++ [11, 201]) ++ [117, 2]) ++ [139, 7]) ++ [195]).set 90 10).set 91 0) ++ [85]) ++ [184, 124, 0]) ++ [80]) ++ [85]) ++ [139, 54]) ++ [34, 0]) ++ [255, 214]) H, a19, a20, a21)) : wpX_compilePlain post (2, 2, 2, 0, nI 118, nI 76, 0, 0, k9, k10, k11, k12, k13, k14, k15, k16, k17, k18, bz_a1, bz_a2 2, bz_a3, bz_a4, bz_a5 y 3, bz_a6, bz_a7, bz_a8, bz_a9, bz_a10, bz_a11, bz_a12, a13, a14, a15, a16, a17, bz_mem st ac C H, a19, a20, a21) 1 5 := by
  unfold wpX_compilePlain
  refine br_f (by decide) ?_
  refine bz_callTo 121 211 255 hn (fun hn => ?_)
  refine br_t rfl ?_
  unfold wpX_compileCall
  refine ⟨vp_in_iff.mpr (by decide), ?_⟩
  refine nm_r (e' := (1 : Int32)) (by decide) ?_
  refine Exists.intro 3 ?_
  refine br_f (by decide) ?_
  refine bz_mode0 1 2 (by decide) (by decide) rfl (by decide) ?_
  refine br_f (by decide) ?_
  refine br_t rfl ?_
  refine ⟨vp_in_iff.mpr (by decide), ?_⟩
  unfold wX_compileCall_50 wpX_compileArgument
  refine br_t rfl ?_
  unfold wpX_compileRoutine
  refine bz_jumpF 124 hn (fun hn => ?_)
  refine ⟨vp_in_iff.mpr (by decide), br_t (by decide) ⟨vp_in_iff.mpr (by decide), ?_⟩⟩
  refine bz_ibnL 3 rfl (by decide) ?_
  refine br_t rfl ⟨vp_in_iff.mpr (by decide), ?_⟩
  unfold wpX_compilePlace
  refine bz_offL 3 (-4) rfl (by decide) (by decide) ?_
  refine ⟨by decide, ?_⟩
  refine bz_ff0 (show (0 : Int32) = 3 / 5 by decide) (by decide) (by decide) ?_
  refine br_t rfl ?_
  refine bz_put3 127 141 94 252 hn (fun hn => ?_)
  unfold wX_compilePlace_40
  refine bz_put2 129 11 201 hn (fun hn => ?_)
  refine bz_put2 131 117 2 hn (fun hn => ?_)
  refine bz_put2 133 139 7 hn (fun hn => ?_)
  unfold wX_compileRoutine_86
  refine bz_put 134 195 hn (fun hn => ?_)
  unfold wpX_land
  refine bz_setWC 90 10 0 hn (fun hn => ?_)
  refine bz_put 135 85 hn (fun hn => ?_)
  refine bz_load 138 184 124 0 hn (fun hn => ?_)
  unfold wX_compileArgument_31
  refine bz_put 139 80 hn (fun hn => ?_)
  refine nm_r (e' := (1 : Int32)) (by decide) ?_
  refine br_f (by decide) ?_
  refine bz_mode1 1 0 (by decide) (by decide) (by decide) (by decide) ?_
  refine br_t rfl ?_
  refine nm_r (e' := (2 : Int32)) (by decide) ?_
  refine br_t (by decide) ?_
  refine ⟨vp_in_iff.mpr (by decide), ?_⟩
  refine bz_ff0 (show (0 : Int32) = bz_a1 1 by decide) (by decide) (by decide) ?_
  refine br_t rfl ?_
  refine bz_put 140 85 hn (fun hn => ?_)
  unfold wX_compileCall_89
  refine bz_put2 142 139 54 hn (fun hn => ?_)
  refine bz_putWord 144 34 0 hn (fun hn => ?_)
  refine bz_put2 146 255 214 hn (fun hn => ?_)
  exact h _ _ _ hn
theorem bz_pr0_23 (hn : 32 + (bz_k0).length = 94) (h : ∀ (e7 e8 e9 : Int32) (e13 e14 e16 e17 : Nat → Int32), post (2, 2, 2, 0, nI 156, nI 76, e7, e8, e9, k10, k11, k12, k13, k14, k15, k16, k17, k18, bz_a1, bz_a2 2, bz_a3, bz_a4, bz_a5 y 3, bz_a6, bz_a7, bz_a8, bz_a9, bz_a10, bz_a11, bz_a12, e13, e14, a15, e16, e17, bz_mem st ac (bz_k1_23) H, a19, a20, a21)) : wpX_compileProcedure post (2, 2, 2, 0, nI 94, nI 76, k7, k8, k9, k10, k11, k12, k13, k14, k15, k16, k17, k18, bz_a1, bz_a2 2, bz_a3, bz_a4, bz_a5 y 3, bz_a6, bz_a7, bz_a8, bz_a9, bz_a10, bz_a11, bz_a12, a13, a14, a15, a16, a17, bz_mem st ac (bz_k0) H, a19, a20, a21) 0 := by
  unfold wpX_compileProcedure
  refine bz_setWC 0 94 0 hn (fun hn => ?_)
  refine bz_put 95 85 hn (fun hn => ?_)
  refine bz_put2 97 139 236 hn (fun hn => ?_)
  refine bz_put2 99 131 62 hn (fun hn => ?_)
  refine bz_putWord 101 4 0 hn (fun hn => ?_)
  refine bz_put 102 12 hn (fun hn => ?_)
  refine bz_put2 104 124 5 hn (fun hn => ?_)
  refine bz_stop 109 2 0 hn (fun hn => ?_)
  refine bz_put2 111 255 6 hn (fun hn => ?_)
  refine bz_putWord 113 4 0 hn (fun hn => ?_)
  refine bz_put2 115 51 192 hn (fun hn => ?_)
  refine bz_put3 118 80 80 80 hn (fun hn => ?_)
  refine ⟨vp_in_iff.mpr (by decide), ?_⟩
  unfold wpX_compileState
  refine bz_enterState 1 ?_
  refine Exists.intro 2 ?_
  refine br_f (by decide) ?_
  refine nm_r (e' := (0 : Int32)) (by decide) ?_
  refine ⟨vp_in_iff.mpr (by decide), ?_⟩
  refine nm_r (e' := (1 : Int32)) rfl ?_
  refine ⟨vp_in_iff.mpr (by decide), ?_⟩
  refine nm_r (e' := (5 : Int32)) (by decide) ?_
  refine ⟨vp_in_iff.mpr (by decide), ?_⟩
  refine nm_r (e' := (0 : Int32)) rfl ?_
  refine ⟨vp_in_iff.mpr (by decide), vp_in_iff.mpr (by decide), ?_⟩
  refine nm_e ?_
  refine br_f (by decide) ?_
  refine br_f (by decide) ?_
  refine br_f (by decide) ?_
  refine nm_r (e' := (0 : Int32)) (by decide) ?_
  refine bz_cp0_23 hn (fun e9 e16 e17 hn => ?_)
  refine br_t (by decide) ?_
  refine bz_put2 148 139 229 hn (fun hn => ?_)
  refine bz_put2 150 255 14 hn (fun hn => ?_)
  refine bz_putWord 152 4 0 hn (fun hn => ?_)
  refine bz_put 153 93 hn (fun hn => ?_)
  refine bz_put 154 194 hn (fun hn => ?_)
  unfold wpX_sizeOf
  refine bz_mode0 0 0 (by decide) (by decide) rfl (by decide) ?_
  refine br_f (by decide) ?_
  refine bz_mode1 0 0 (by decide) (by decide) (by decide) (by decide) ?_
  refine br_f (by decide) ?_
  refine nm_r (e' := (2 : Int32)) (by decide) ?_
  refine bz_putWord 156 2 0 hn (fun hn => ?_)
  have e : ((((((((((((((((((((((((((((((((((((bz_k0.set 0 94).set 1 0) ++ [85]) ++ [139, 236]) ++ [131, 62]) ++ [4, 0]) ++ [12]) ++ [124, 5]) ++ [184, 2, 0, 205, 0]) ++ [255, 6]) ++ [4, 0]) ++ [51, 192]) ++ [80, 80, 80]) ++ [232, 211, 255]) ++ [233, 0, 0]) ++ [141, 94, 252]) ++ [11, 201]) ++ [117, 2]) ++ [139, 7]) ++ [195]).set 90 10).set 91 0) ++ [85]) ++ [184, 124, 0]) ++ [80]) ++ [85]) ++ [139, 54]) ++ [34, 0]) ++ [255, 214])) ++ [139, 229]) ++ [255, 14]) ++ [4, 0]) ++ [93]) ++ [194]) ++ [2, 0]) = bz_k1_23 := by simp only [List.append_assoc]; rfl
  rw [e]
  exact h _ _ _ _ _ _ _
theorem bz_cp1_23 (hy1 : (y &&& 255).toInt8.toInt32 = bz_b (q % 256)) (hy2 : ((y >>> ((8 : Int32) &&& 31)) &&& 255).toInt8.toInt32 = bz_b (q / 256)) (hn : 32 + C.length = 180) (h : ∀ (e9 : Int32) (e16 e17 : Nat → Int32), 32 + ((((((((((((C ++ [232, 149, 255]) ++ [184, q % 256, q / 256]) ++ [80]) ++ [232, 142, 255]) ++ [139, 118, 6]) ++ [85]) ++ [139, 110, 8]) ++ [185, 1, 0]) ++ [255, 214]) ++ [93]) ++ [88]) ++ [137, 7]).length = 206 → post (2, 2, 2, 0, nI 206, nI 76, 1, 0, e9, k10, k11, k12, k13, k14, k15, k16, k17, k18, bz_a1, bz_a2 2, bz_a3, bz_a4, bz_a5 y 3, bz_a6, bz_a7, bz_a8, bz_a9, bz_a10, bz_a11, bz_a12, a13, a14, a15, e16, e17, bz_mem st ac ((((((((((((C ++ [232, 149, 255]) ++ [184, q % 256, q / 256]) ++ [80]) ++ [232, 142, 255]) ++ [139, 118, 6]) ++ [85]) ++ [139, 110, 8]) ++ [185, 1, 0]) ++ [255, 214]) ++ [93]) ++ [88]) ++ [137, 7]) H, a19, a20, a21)) : wpX_compilePlain post (2, 2, 2, 0, nI 180, nI 76, 1, 0, k9, k10, k11, k12, k13, k14, k15, k16, k17, k18, bz_a1, bz_a2 2, bz_a3, bz_a4, bz_a5 y 3, bz_a6, bz_a7, bz_a8, bz_a9, bz_a10, bz_a11, bz_a12, a13, a14, a15, a16, a17, bz_mem st ac C H, a19, a20, a21) 0 0 := by
  unfold wpX_compilePlain
  refine br_f (by decide) ?_
  refine bz_callTo 183 149 255 hn (fun hn => ?_)
  refine br_f (by decide) ?_
  refine br_t rfl ?_
  refine ⟨vp_in_iff.mpr (by decide), ?_⟩
  unfold wX_compilePlain_46
  unfold wpX_compileExpression
  refine bz_enterExpr 0 ?_
  refine Exists.intro 2 ?_
  refine br_f (by decide) ?_
  refine nm_r (e' := (0 : Int32)) (by decide) ?_
  refine ⟨vp_in_iff.mpr (by decide), ?_⟩
  refine nm_r (e' := (0 : Int32)) rfl ?_
  refine ⟨vp_in_iff.mpr (by decide), ?_⟩
  refine nm_r (e' := (0 : Int32)) (by decide) ?_
  refine ⟨vp_in_iff.mpr (by decide), ?_⟩
  refine nm_r (e' := (0 : Int32)) rfl ?_
  refine ⟨vp_in_iff.mpr (by decide), vp_in_iff.mpr (by decide), ?_⟩
  refine nm_e ?_
  refine br_t rfl ?_
  unfold wX_compileExpression_69
  refine nm_r (e' := (0 : Int32)) (by decide) ?_
  refine br_t rfl ⟨vp_in_iff.mpr (by decide), ?_⟩
  refine bz_load 186 184 (q % 256) (q / 256) hn (fun hn => ?_) (by decide) hy1 hy2
  refine br_t (by decide) ?_
  refine br_f (by decide) ?_
  refine ⟨vp_in_iff.mpr (by decide), ?_⟩
  refine nm_r (e' := (5 : Int32)) (by decide) ?_
  refine bz_ibn5 1 (by decide) (by decide) ?_
  refine br_f (by decide) ?_
  refine bz_put 187 80 hn (fun hn => ?_)
  unfold wpX_useName
  refine bz_callTo 190 142 255 hn (fun hn => ?_)
  refine ⟨by decide, ?_⟩
  refine bz_ff0 (show (1 : Int32) = 5 / 5 by decide) (by decide) (by decide) ?_
  refine bz_off5 (by decide) ?_
  refine bz_touch 193 139 118 6 hn rfl (fun hn => ?_)
  refine bz_put 194 85 hn (fun hn => ?_)
  refine bz_touch 197 139 110 8 hn rfl (fun hn => ?_)
  refine br_f (by decide) ?_
  refine bz_load 200 185 1 0 hn (fun hn => ?_)
  unfold wX_useName_64
  refine bz_put2 202 255 214 hn (fun hn => ?_)
  refine bz_put 203 93 hn (fun hn => ?_)
  refine bz_put 204 88 hn (fun hn => ?_)
  refine bz_put2 206 137 7 hn (fun hn => ?_)
  exact h _ _ _ hn
theorem bz_pr1_23 (hy1 : (y &&& 255).toInt8.toInt32 = bz_b (q % 256)) (hy2 : ((y >>> ((8 : Int32) &&& 31)) &&& 255).toInt8.toInt32 = bz_b (q / 256)) (hn : 32 + (bz_k1_23).length = 156) (h : ∀ (e7 e8 e9 : Int32) (e13 e14 e16 e17 : Nat → Int32), post (2, 2, 2, 0, nI 216, nI 76, e7, e8, e9, k10, k11, k12, k13, k14, k15, k16, k17, k18, bz_a1, bz_a2 2, bz_a3, bz_a4, bz_a5 y 3, bz_a6, bz_a7, bz_a8, bz_a9, bz_a10, bz_a11, bz_a12, e13, e14, a15, e16, e17, bz_mem st ac (bz_cd1 252 q) H, a19, a20, a21)) : wpX_compileProcedure post (2, 2, 2, 0, nI 156, nI 76, k7, k8, k9, k10, k11, k12, k13, k14, k15, k16, k17, k18, bz_a1, bz_a2 2, bz_a3, bz_a4, bz_a5 y 3, bz_a6, bz_a7, bz_a8, bz_a9, bz_a10, bz_a11, bz_a12, a13, a14, a15, a16, a17, bz_mem st ac (bz_k1_23) H, a19, a20, a21) 1 := by
  unfold wpX_compileProcedure
  refine bz_setWC 2 156 0 hn (fun hn => ?_)
  refine bz_put 157 85 hn (fun hn => ?_)
  refine bz_put2 159 139 236 hn (fun hn => ?_)
  refine bz_put2 161 131 62 hn (fun hn => ?_)
  refine bz_putWord 163 4 0 hn (fun hn => ?_)
  refine bz_put 164 12 hn (fun hn => ?_)
  refine bz_put2 166 124 5 hn (fun hn => ?_)
  refine bz_stop 171 2 0 hn (fun hn => ?_)
  refine bz_put2 173 255 6 hn (fun hn => ?_)
  refine bz_putWord 175 4 0 hn (fun hn => ?_)
  refine bz_put2 177 51 192 hn (fun hn => ?_)
  refine bz_put3 180 80 80 80 hn (fun hn => ?_)
  refine ⟨vp_in_iff.mpr (by decide), ?_⟩
  unfold wpX_compileState
  refine bz_enterState 0 ?_
  refine Exists.intro 2 ?_
  refine br_f (by decide) ?_
  refine nm_r (e' := (0 : Int32)) (by decide) ?_
  refine ⟨vp_in_iff.mpr (by decide), ?_⟩
  refine nm_r (e' := (0 : Int32)) rfl ?_
  refine ⟨vp_in_iff.mpr (by decide), ?_⟩
  refine nm_r (e' := (0 : Int32)) (by decide) ?_
  refine ⟨vp_in_iff.mpr (by decide), ?_⟩
  refine nm_r (e' := (0 : Int32)) rfl ?_
  refine ⟨vp_in_iff.mpr (by decide), vp_in_iff.mpr (by decide), ?_⟩
  refine nm_e ?_
  refine br_f (by decide) ?_
  refine br_f (by decide) ?_
  refine br_f (by decide) ?_
  refine nm_r (e' := (0 : Int32)) (by decide) ?_
  refine bz_cp1_23 hy1 hy2 hn (fun e9 e16 e17 hn => ?_)
  refine br_t (by decide) ?_
  refine bz_put2 208 139 229 hn (fun hn => ?_)
  refine bz_put2 210 255 14 hn (fun hn => ?_)
  refine bz_putWord 212 4 0 hn (fun hn => ?_)
  refine bz_put 213 93 hn (fun hn => ?_)
  refine bz_put 214 194 hn (fun hn => ?_)
  unfold wpX_sizeOf
  refine bz_mode0 1 2 (by decide) (by decide) rfl (by decide) ?_
  refine br_t rfl ?_
  refine bz_mode1 1 0 (by decide) (by decide) (by decide) (by decide) ?_
  refine br_f (by decide) ?_
  refine nm_r (e' := (6 : Int32)) (by decide) ?_
  refine bz_putWord 216 6 0 hn (fun hn => ?_)
  have e : ((((((((((((((((((((((((((((((((bz_k1_23.set 2 156).set 3 0) ++ [85]) ++ [139, 236]) ++ [131, 62]) ++ [4, 0]) ++ [12]) ++ [124, 5]) ++ [184, 2, 0, 205, 0]) ++ [255, 6]) ++ [4, 0]) ++ [51, 192]) ++ [80, 80, 80]) ++ [232, 149, 255]) ++ [184, q % 256, q / 256]) ++ [80]) ++ [232, 142, 255]) ++ [139, 118, 6]) ++ [85]) ++ [139, 110, 8]) ++ [185, 1, 0]) ++ [255, 214]) ++ [93]) ++ [88]) ++ [137, 7])) ++ [139, 229]) ++ [255, 14]) ++ [4, 0]) ++ [93]) ++ [194]) ++ [6, 0]) = bz_cd1 252 q := by simp only [List.append_assoc]; rfl
  rw [e]
  exact h _ _ _ _ _ _ _
theorem bz_co_23 (hy1 : (y &&& 255).toInt8.toInt32 = bz_b (q % 256)) (hy2 : ((y >>> ((8 : Int32) &&& 31)) &&& 255).toInt8.toInt32 = bz_b (q / 256)) (h : ∀ (e5 e6 e7 e8 e9 : Int32) (e13 e14 e16 e17 : Nat → Int32), post (2, 2, 2, 0, e5, e6, e7, e8, e9, k10, k11, k12, k13, k14, k15, k16, k17, k18, bz_a1, bz_a2 2, bz_a3, bz_a4, bz_a5 y 3, bz_a6, bz_a7, bz_a8, bz_a9, bz_a10, bz_a11, bz_a12, e13, e14, a15, e16, e17, bz_mem st ac (bz_cd1 252 q) H, a19, a20, a21)) : wpX_compile post (2, 2, 2, k4, k5, k6, k7, k8, k9, k10, k11, k12, k13, k14, k15, k16, k17, k18, bz_a1, bz_a2 2, bz_a3, bz_a4, bz_a5 y 3, bz_a6, bz_a7, bz_a8, bz_a9, bz_a10, bz_a11, bz_a12, a13, a14, a15, a16, a17, bz_mem st ac [0, 0, 0, 0, 0, 0, 0, 0, 0, 0, 0, 0, 0, 0, 0, 0, 0, 0, 0, 0, 0, 0, 0, 0, 0, 0, 0, 0, 0, 0, 0, 0] H, a19, a20, a21) := by
  unfold wpX_compile
  refine bz_put (n := 64) 65 80 rfl (fun hn => ?_)
  refine bz_put2 67 139 54 hn (fun hn => ?_)
  refine bz_putWord 69 32 0 hn (fun hn => ?_)
  refine bz_put2 71 255 214 hn (fun hn => ?_)
  refine bz_stop 76 0 0 hn (fun hn => ?_)
  refine bz_put2 78 129 62 hn (fun hn => ?_)
  refine bz_putWord 80 2 0 hn (fun hn => ?_)
  refine bz_putWord 82 244 1 hn (fun hn => ?_)
  refine bz_put2 84 124 5 hn (fun hn => ?_)
  refine bz_stop 89 1 0 hn (fun hn => ?_)
  refine bz_put2 91 255 6 hn (fun hn => ?_)
  refine bz_putWord 93 2 0 hn (fun hn => ?_)
  refine bz_put 94 195 hn (fun hn => ?_)
  refine Exists.intro 3 ?_
  refine br_f (by decide) ?_
  have e : ((((((((((((([0, 0, 0, 0, 0, 0, 0, 0, 0, 0, 0, 0, 0, 0, 0, 0, 0, 0, 0, 0, 0, 0, 0, 0, 0, 0, 0, 0, 0, 0, 0, 0] ++ [80]) ++ [139, 54]) ++ [32, 0]) ++ [255, 214]) ++ [184, 0, 0, 205, 0]) ++ [129, 62]) ++ [2, 0]) ++ [244, 1]) ++ [124, 5]) ++ [184, 1, 0, 205, 0]) ++ [255, 6]) ++ [2, 0]) ++ [195]) = bz_k0 := by simp only [List.append_assoc]; rfl
  rw [e]
  refine bz_pr0_23 (by decide) (fun e7 e8 e9 e13 e14 e16 e17 => ?_)
  refine nm_r (e' := (1 : Int32)) (by decide) ?_
  refine br_f (by decide) ?_
  refine bz_pr1_23 hy1 hy2 (by decide) (fun e7 e8 e9 e13 e14 e16 e17 => ?_)
  refine nm_r (e' := (2 : Int32)) (by decide) ?_
  refine br_t (by decide) ?_
  exact h _ _ _ _ _ _ _ _ _
def bz_k1_24 : List Nat := [94, 0, 0, 0, 0, 0, 0, 0, 0, 0, 0, 0, 0, 0, 0, 0, 0, 0, 0, 0, 0, 0, 0, 0, 0, 0, 0, 0, 0, 0, 0, 0, 80, 139, 54, 32, 0, 255, 214, 184, 0, 0, 205, 0, 129, 62, 2, 0, 244, 1, 124, 5, 184, 1, 0, 205, 0, 255, 6, 2, 0, 195, 85, 139, 236, 131, 62, 4, 0, 12, 124, 5, 184, 2, 0, 205, 0, 255, 6, 4, 0, 51, 192, 80, 80, 80, 232, 211, 255, 233, 10, 0, 141, 94, 250, 11, 201, 117, 2, 139, 7, 195, 85, 184, 124, 0, 80, 85, 139, 54, 34, 0, 255, 214, 139, 229, 255, 14, 4, 0, 93, 194, 2, 0]
theorem bz_cp0_24 (hn : 32 + C.length = 118) (h : ∀ (e9 : Int32) (e16 e17 : Nat → Int32), 32 + ((((((((((((((((C ++ [232, 211, 255]) ++ [233, 0, 0]) ++ [141, 94, 250]) ++ [11, 201]) ++ [117, 2]) ++ [139, 7]) ++ [195]).set 90 10).set 91 0) ++ [85]) ++ [184, 124, 0]) ++ [80]) ++ [85]) ++ [139, 54]) ++ [34, 0]) ++ [255, 214]).length = 146 → post (2, 2, 2, 0, nI 146, nI 76, 0, 0, e9, k10, k11, k12, k13, k14, k15, k16, k17, k18, bz_a1, bz_a2 2, bz_a3, bz_a4, bz_a5 y 4, bz_a6, bz_a7, bz_a8, bz_a9, bz_a10, bz_a11, bz_a12, a13, a14, a15, e16, e17, bz_mem st ac ((((((((((((((((C ++ [232, 211, 255]) ++ [233, 0, 0]) ++ [141, 94, 250]) ++ [11, 201]) ++ [117, 2]) ++ [139, 7]) ++ [195]).set 90 10).set 91 0) ++ [85]) ++ [184, 124, 0]) ++ [80]) ++ [85]) ++ [139, 54]) ++ [34, 0]) ++ [255, 214]) H, a19, a20, a21)) : wpX_compilePlain post (2, 2, 2, 0, nI 118, nI 76, 0, 0, k9, k10, k11, k12, k13, k14, k15, k16, k17, k18, bz_a1, bz_a2 2, bz_a3, bz_a4, bz_a5 y 4, bz_a6, bz_a7, bz_a8, bz_a9, bz_a10, bz_a11, bz_a12, a13, a14, a15, a16, a17, bz_mem st ac C H, a19, a20, a21) 1 5 := by
  unfold wpX_compilePlain
  refine br_f (by decide) ?_
  refine bz_callTo 121 211 255 hn (fun hn => ?_)
  refine br_t rfl ?_
  unfold wpX_compileCall
  refine ⟨vp_in_iff.mpr (by decide), ?_⟩
  refine nm_r (e' := (1 : Int32)) (by decide) ?_
  refine Exists.intro 3 ?_
  refine br_f (by decide) ?_
  refine bz_mode0 1 2 (by decide) (by decide) rfl (by decide) ?_
  refine br_f (by decide) ?_
  refine br_t rfl ?_
  refine ⟨vp_in_iff.mpr (by decide), ?_⟩
  unfold wX_compileCall_50 wpX_compileArgument
  refine br_t rfl ?_
  unfold wpX_compileRoutine
  refine bz_jumpF 124 hn (fun hn => ?_)
  refine ⟨vp_in_iff.mpr (by decide), br_t (by decide) ⟨vp_in_iff.mpr (by decide), ?_⟩⟩
  refine bz_ibnL 4 rfl (by decide) ?_
  refine br_t rfl ⟨vp_in_iff.mpr (by decide), ?_⟩
  unfold wpX_compilePlace
  refine bz_offL 4 (-6) rfl (by decide) (by decide) ?_
  refine ⟨by decide, ?_⟩
  refine bz_ff0 (show (0 : Int32) = 4 / 5 by decide) (by decide) (by decide) ?_
  refine br_t rfl ?_
  refine bz_put3 127 141 94 250 hn (fun hn => ?_)
  unfold wX_compilePlace_40
  refine bz_put2 129 11 201 hn (fun hn => ?_)
  refine bz_put2 131 117 2 hn (fun hn => ?_)
  refine bz_put2 133 139 7 hn (fun hn => ?_)
  unfold wX_compileRoutine_86
  refine bz_put 134 195 hn (fun hn => ?_)
  unfold wpX_land
  refine bz_setWC 90 10 0 hn (fun hn => ?_)
  refine bz_put 135 85 hn (fun hn => ?_)
  refine bz_load 138 184 124 0 hn (fun hn => ?_)
  unfold wX_compileArgument_31
  refine bz_put 139 80 hn (fun hn => ?_)
  refine nm_r (e' := (1 : Int32)) (by decide) ?_
  refine br_f (by decide) ?_
  refine bz_mode1 1 0 (by decide) (by decide) (by decide) (by decide) ?_
  refine br_t rfl ?_
  refine nm_r (e' := (2 : Int32)) (by decide) ?_
  refine br_t (by decide) ?_
  refine ⟨vp_in_iff.mpr (by decide), ?_⟩
  refine bz_ff0 (show (0 : Int32) = bz_a1 1 by decide) (by decide) (by decide) ?_
  refine br_t rfl ?_
  refine bz_put 140 85 hn (fun hn => ?_)
  unfold wX_compileCall_89
  refine bz_put2 142 139 54 hn (fun hn => ?_)
  refine bz_putWord 144 34 0 hn (fun hn => ?_)
  refine bz_put2 146 255 214 hn (fun hn => ?_)
  exact h _ _ _ hn
theorem bz_pr0_24 (hn : 32 + (bz_k0).length = 94) (h : ∀ (e7 e8 e9 : Int32) (e13 e14 e16 e17 : Nat → Int32), post (2, 2, 2, 0, nI 156, nI 76, e7, e8, e9, k10, k11, k12, k13, k14, k15, k16, k17, k18, bz_a1, bz_a2 2, bz_a3, bz_a4, bz_a5 y 4, bz_a6, bz_a7, bz_a8, bz_a9, bz_a10, bz_a11, bz_a12, e13, e14, a15, e16, e17, bz_mem st ac (bz_k1_24) H, a19, a20, a21)) : wpX_compileProcedure post (2, 2, 2, 0, nI 94, nI 76, k7, k8, k9, k10, k11, k12, k13, k14, k15, k16, k17, k18, bz_a1, bz_a2 2, bz_a3, bz_a4, bz_a5 y 4, bz_a6, bz_a7, bz_a8, bz_a9, bz_a10, bz_a11, bz_a12, a13, a14, a15, a16, a17, bz_mem st ac (bz_k0) H, a19, a20, a21) 0 := by
  unfold wpX_compileProcedure
  refine bz_setWC 0 94 0 hn (fun hn => ?_)
  refine bz_put 95 85 hn (fun hn => ?_)
  refine bz_put2 97 139 236 hn (fun hn => ?_)
  refine bz_put2 99 131 62 hn (fun hn => ?_)
  refine bz_putWord 101 4 0 hn (fun hn => ?_)
  refine bz_put 102 12 hn (fun hn => ?_)
  refine bz_put2 104 124 5 hn (fun hn => ?_)
  refine bz_stop 109 2 0 hn (fun hn => ?_)
  refine bz_put2 111 255 6 hn (fun hn => ?_)
  refine bz_putWord 113 4 0 hn (fun hn => ?_)
  refine bz_put2 115 51 192 hn (fun hn => ?_)
  refine bz_put3 118 80 80 80 hn (fun hn => ?_)
  refine ⟨vp_in_iff.mpr (by decide), ?_⟩
  unfold wpX_compileState
  refine bz_enterState 1 ?_
  refine Exists.intro 2 ?_
  refine br_f (by decide) ?_
  refine nm_r (e' := (0 : Int32)) (by decide) ?_
  refine ⟨vp_in_iff.mpr (by decide), ?_⟩
  refine nm_r (e' := (1 : Int32)) rfl ?_
  refine ⟨vp_in_iff.mpr (by decide), ?_⟩
  refine nm_r (e' := (5 : Int32)) (by decide) ?_
  refine ⟨vp_in_iff.mpr (by decide), ?_⟩
  refine nm_r (e' := (0 : Int32)) rfl ?_
  refine ⟨vp_in_iff.mpr (by decide), vp_in_iff.mpr (by decide), ?_⟩
  refine nm_e ?_
  refine br_f (by decide) ?_
  refine br_f (by decide) ?_
  refine br_f (by decide) ?_
  refine nm_r (e' := (0 : Int32)) (by decide) ?_
  refine bz_cp0_24 hn (fun e9 e16 e17 hn => ?_)
  refine br_t (by decide) ?_
  refine bz_put2 148 139 229 hn (fun hn => ?_)
  refine bz_put2 150 255 14 hn (fun hn => ?_)
  refine bz_putWord 152 4 0 hn (fun hn => ?_)
  refine bz_put 153 93 hn (fun hn => ?_)
  refine bz_put 154 194 hn (fun hn => ?_)
  unfold wpX_sizeOf
  refine bz_mode0 0 0 (by decide) (by decide) rfl (by decide) ?_
  refine br_f (by decide) ?_
  refine bz_mode1 0 0 (by decide) (by decide) (by decide) (by decide) ?_
  refine br_f (by decide) ?_
  refine nm_r (e' := (2 : Int32)) (by decide) ?_
  refine bz_putWord 156 2 0 hn (fun hn => ?_)
  have e : ((((((((((((((((((((((((((((((((((((bz_k0.set 0 94).set 1 0) ++ [85]) ++ [139, 236]) ++ [131, 62]) ++ [4, 0]) ++ [12]) ++ [124, 5]) ++ [184, 2, 0, 205, 0]) ++ [255, 6]) ++ [4, 0]) ++ [51, 192]) ++ [80, 80, 80]) ++ [232, 211, 255]) ++ [233, 0, 0]) ++ [141, 94, 250]) ++ [11, 201]) ++ [117, 2]) ++ [139, 7]) ++ [195]).set 90 10).set 91 0) ++ [85]) ++ [184, 124, 0]) ++ [80]) ++ [85]) ++ [139, 54]) ++ [34, 0]) ++ [255, 214])) ++ [139, 229]) ++ [255, 14]) ++ [4, 0]) ++ [93]) ++ [194]) ++ [2, 0]) = bz_k1_24 := by simp only [List.append_assoc]; rfl
  rw [e]
  exact h _ _ _ _ _ _ _
theorem bz_cp1_24 (hy1 : (y &&& 255).toInt8.toInt32 = bz_b (q % 256)) (hy2 : ((y >>> ((8 : Int32) &&& 31)) &&& 255).toInt8.toInt32 = bz_b (q / 256)) (hn : 32 + C.length = 180) (h : ∀ (e9 : Int32) (e16 e17 : Nat → Int32), 32 + ((((((((((((C ++ [232, 149, 255]) ++ [184, q % 256, q / 256]) ++ [80]) ++ [232, 142, 255]) ++ [139, 118, 6]) ++ [85]) ++ [139, 110, 8]) ++ [185, 1, 0]) ++ [255, 214]) ++ [93]) ++ [88]) ++ [137, 7]).length = 206 → post (2, 2, 2, 0, nI 206, nI 76, 1, 0, e9, k10, k11, k12, k13, k14, k15, k16, k17, k18, bz_a1, bz_a2 2, bz_a3, bz_a4, bz_a5 y 4, bz_a6, bz_a7, bz_a8, bz_a9, bz_a10, bz_a11, bz_a12, a13, a14, a15, e16, e17, bz_mem st ac ((((((((((((C ++ [232, 149, 255]) ++ [184, q % 256, q / 256]) ++ [80]) ++ [232, 142, 255]) ++ [139, 118, 6]) ++ [85]) ++ [139, 110, 8]) ++ [185, 1, 0]) ++ [255, 214]) ++ [93]) ++ [88]) ++ [137, 7]) H, a19, a20, a21)) : wpX_compilePlain post (2, 2, 2, 0, nI 180, nI 76, 1, 0, k9, k10, k11, k12, k13, k14, k15, k16, k17, k18, bz_a1, bz_a2 2, bz_a3, bz_a4, bz_a5 y 4, bz_a6, bz_a7, bz_a8, bz_a9, bz_a10, bz_a11, bz_a12, a13, a14, a15, a16, a17, bz_mem st ac C H, a19, a20, a21) 0 0 := by
  unfold wpX_compilePlain
  refine br_f (by decide) ?_
  refine bz_callTo 183 149 255 hn (fun hn => ?_)
  refine br_f (by decide) ?_
  refine br_t rfl ?_
  refine ⟨vp_in_iff.mpr (by decide), ?_⟩
  unfold wX_compilePlain_46
  unfold wpX_compileExpression
  refine bz_enterExpr 0 ?_
  refine Exists.intro 2 ?_
  refine br_f (by decide) ?_
  refine nm_r (e' := (0 : Int32)) (by decide) ?_
  refine ⟨vp_in_iff.mpr (by decide), ?_⟩
  refine nm_r (e' := (0 : Int32)) rfl ?_
  refine ⟨vp_in_iff.mpr (by decide), ?_⟩
  refine nm_r (e' := (0 : Int32)) (by decide) ?_
  refine ⟨vp_in_iff.mpr (by decide), ?_⟩
  refine nm_r (e' := (0 : Int32)) rfl ?_
  refine ⟨vp_in_iff.mpr (by decide), vp_in_iff.mpr (by decide), ?_⟩
  refine nm_e ?_
  refine br_t rfl ?_
  unfold wX_compileExpression_69
  refine nm_r (e' := (0 : Int32)) (by decide) ?_
  refine br_t rfl ⟨vp_in_iff.mpr (by decide), ?_⟩
  refine bz_load 186 184 (q % 256) (q / 256) hn (fun hn => ?_) (by decide) hy1 hy2
  refine br_t (by decide) ?_
  refine br_f (by decide) ?_
  refine ⟨vp_in_iff.mpr (by decide), ?_⟩
  refine nm_r (e' := (5 : Int32)) (by decide) ?_
  refine bz_ibn5 1 (by decide) (by decide) ?_
  refine br_f (by decide) ?_
  refine bz_put 187 80 hn (fun hn => ?_)
  unfold wpX_useName
  refine bz_callTo 190 142 255 hn (fun hn => ?_)
  refine ⟨by decide, ?_⟩
  refine bz_ff0 (show (1 : Int32) = 5 / 5 by decide) (by decide) (by decide) ?_
  refine bz_off5 (by decide) ?_
  refine bz_touch 193 139 118 6 hn rfl (fun hn => ?_)
  refine bz_put 194 85 hn (fun hn => ?_)
  refine bz_touch 197 139 110 8 hn rfl (fun hn => ?_)
  refine br_f (by decide) ?_
  refine bz_load 200 185 1 0 hn (fun hn => ?_)
  unfold wX_useName_64
  refine bz_put2 202 255 214 hn (fun hn => ?_)
  refine bz_put 203 93 hn (fun hn => ?_)
  refine bz_put 204 88 hn (fun hn => ?_)
  refine bz_put2 206 137 7 hn (fun hn => ?_)
  exact h _ _ _ hn
theorem bz_pr1_24 (hy1 : (y &&& 255).toInt8.toInt32 = bz_b (q % 256)) (hy2 : ((y >>> ((8 : Int32) &&& 31)) &&& 255).toInt8.toInt32 = bz_b (q / 256)) (hn : 32 + (bz_k1_24).length = 156) (h : ∀ (e7 e8 e9 : Int32) (e13 e14 e16 e17 : Nat → Int32), post (2, 2, 2, 0, nI 216, nI 76, e7, e8, e9, k10, k11, k12, k13, k14, k15, k16, k17, k18, bz_a1, bz_a2 2, bz_a3, bz_a4, bz_a5 y 4, bz_a6, bz_a7, bz_a8, bz_a9, bz_a10, bz_a11, bz_a12, e13, e14, a15, e16, e17, bz_mem st ac (bz_cd1 250 q) H, a19, a20, a21)) : wpX_compileProcedure post (2, 2, 2, 0, nI 156, nI 76, k7, k8, k9, k10, k11, k12, k13, k14, k15, k16, k17, k18, bz_a1, bz_a2 2, bz_a3, bz_a4, bz_a5 y 4, bz_a6, bz_a7, bz_a8, bz_a9, bz_a10, bz_a11, bz_a12, a13, a14, a15, a16, a17, bz_mem st ac (bz_k1_24) H, a19, a20, a21) 1 := by
  unfold wpX_compileProcedure
  refine bz_setWC 2 156 0 hn (fun hn => ?_)
  refine bz_put 157 85 hn (fun hn => ?_)
  refine bz_put2 159 139 236 hn (fun hn => ?_)
  refine bz_put2 161 131 62 hn (fun hn => ?_)
  refine bz_putWord 163 4 0 hn (fun hn => ?_)
  refine bz_put 164 12 hn (fun hn => ?_)
  refine bz_put2 166 124 5 hn (fun hn => ?_)
  refine bz_stop 171 2 0 hn (fun hn => ?_)
  refine bz_put2 173 255 6 hn (fun hn => ?_)
  refine bz_putWord 175 4 0 hn (fun hn => ?_)
  refine bz_put2 177 51 192 hn (fun hn => ?_)
  refine bz_put3 180 80 80 80 hn (fun hn => ?_)
  refine ⟨vp_in_iff.mpr (by decide), ?_⟩
  unfold wpX_compileState
  refine bz_enterState 0 ?_
  refine Exists.intro 2 ?_
  refine br_f (by decide) ?_
  refine nm_r (e' := (0 : Int32)) (by decide) ?_
  refine ⟨vp_in_iff.mpr (by decide), ?_⟩
  refine nm_r (e' := (0 : Int32)) rfl ?_
  refine ⟨vp_in_iff.mpr (by decide), ?_⟩
  refine nm_r (e' := (0 : Int32)) (by decide) ?_
  refine ⟨vp_in_iff.mpr (by decide), ?_⟩
  refine nm_r (e' := (0 : Int32)) rfl ?_
  refine ⟨vp_in_iff.mpr (by decide), vp_in_iff.mpr (by decide), ?_⟩
  refine nm_e ?_
  refine br_f (by decide) ?_
  refine br_f (by decide) ?_
  refine br_f (by decide) ?_
  refine nm_r (e' := (0 : Int32)) (by decide) ?_
  refine bz_cp1_24 hy1 hy2 hn (fun e9 e16 e17 hn => ?_)
  refine br_t (by decide) ?_
  refine bz_put2 208 139 229 hn (fun hn => ?_)
  refine bz_put2 210 255 14 hn (fun hn => ?_)
  refine bz_putWord 212 4 0 hn (fun hn => ?_)
  refine bz_put 213 93 hn (fun hn => ?_)
  refine bz_put 214 194 hn (fun hn => ?_)
  unfold wpX_sizeOf
  refine bz_mode0 1 2 (by decide) (by decide) rfl (by decide) ?_
  refine br_t rfl ?_
  refine bz_mode1 1 0 (by decide) (by decide) (by decide) (by decide) ?_
  refine br_f (by decide) ?_
  refine nm_r (e' := (6 : Int32)) (by decide) ?_
  refine bz_putWord 216 6 0 hn (fun hn => ?_)
  have e : ((((((((((((((((((((((((((((((((bz_k1_24.set 2 156).set 3 0) ++ [85]) ++ [139, 236]) ++ [131, 62]) ++ [4, 0]) ++ [12]) ++ [124, 5]) ++ [184, 2, 0, 205, 0]) ++ [255, 6]) ++ [4, 0]) ++ [51, 192]) ++ [80, 80, 80]) ++ [232, 149, 255]) ++ [184, q % 256, q / 256]) ++ [80]) ++ [232, 142, 255]) ++ [139, 118, 6]) ++ [85]) ++ [139, 110, 8]) ++ [185, 1, 0]) ++ [255, 214]) ++ [93]) ++ [88]) ++ [137, 7])) ++ [139, 229]) ++ [255, 14]) ++ [4, 0]) ++ [93]) ++ [194]) ++ [6, 0]) = bz_cd1 250 q := by simp only [List.append_assoc]; rfl
  rw [e]
  exact h _ _ _ _ _ _ _
theorem bz_co_24 (hy1 : (y &&& 255).toInt8.toInt32 = bz_b (q % 256)) (hy2 : ((y >>> ((8 : Int32) &&& 31)) &&& 255).toInt8.toInt32 = bz_b (q / 256)) (h : ∀ (e5 e6 e7 e8 e9 : Int32) (e13 e14 e16 e17 : Nat → Int32), post (2, 2, 2, 0, e5, e6, e7, e8, e9, k10, k11, k12, k13, k14, k15, k16, k17, k18, bz_a1, bz_a2 2, bz_a3, bz_a4, bz_a5 y 4, bz_a6, bz_a7, bz_a8, bz_a9, bz_a10, bz_a11, bz_a12, e13, e14, a15, e16, e17, bz_mem st ac (bz_cd1 250 q) H, a19, a20, a21)) : wpX_compile post (2, 2, 2, k4, k5, k6, k7, k8, k9, k10, k11, k12, k13, k14, k15, k16, k17, k18, bz_a1, bz_a2 2, bz_a3, bz_a4, bz_a5 y 4, bz_a6, bz_a7, bz_a8, bz_a9, bz_a10, bz_a11, bz_a12, a13, a14, a15, a16, a17, bz_mem st ac [0, 0, 0, 0, 0, 0, 0, 0, 0, 0, 0, 0, 0, 0, 0, 0, 0, 0, 0, 0, 0, 0, 0, 0, 0, 0, 0, 0, 0, 0, 0, 0] H, a19, a20, a21) := by
  unfold wpX_compile
  refine bz_put (n := 64) 65 80 rfl (fun hn => ?_)
  refine bz_put2 67 139 54 hn (fun hn => ?_)
  refine bz_putWord 69 32 0 hn (fun hn => ?_)
  refine bz_put2 71 255 214 hn (fun hn => ?_)
  refine bz_stop 76 0 0 hn (fun hn => ?_)
  refine bz_put2 78 129 62 hn (fun hn => ?_)
  refine bz_putWord 80 2 0 hn (fun hn => ?_)
  refine bz_putWord 82 244 1 hn (fun hn => ?_)
  refine bz_put2 84 124 5 hn (fun hn => ?_)
  refine bz_stop 89 1 0 hn (fun hn => ?_)
  refine bz_put2 91 255 6 hn (fun hn => ?_)
  refine bz_putWord 93 2 0 hn (fun hn => ?_)
  refine bz_put 94 195 hn (fun hn => ?_)
  refine Exists.intro 3 ?_
  refine br_f (by decide) ?_
  have e : ((((((((((((([0, 0, 0, 0, 0, 0, 0, 0, 0, 0, 0, 0, 0, 0, 0, 0, 0, 0, 0, 0, 0, 0, 0, 0, 0, 0, 0, 0, 0, 0, 0, 0] ++ [80]) ++ [139, 54]) ++ [32, 0]) ++ [255, 214]) ++ [184, 0, 0, 205, 0]) ++ [129, 62]) ++ [2, 0]) ++ [244, 1]) ++ [124, 5]) ++ [184, 1, 0, 205, 0]) ++ [255, 6]) ++ [2, 0]) ++ [195]) = bz_k0 := by simp only [List.append_assoc]; rfl
  rw [e]
  refine bz_pr0_24 (by decide) (fun e7 e8 e9 e13 e14 e16 e17 => ?_)
  refine nm_r (e' := (1 : Int32)) (by decide) ?_
  refine br_f (by decide) ?_
  refine bz_pr1_24 hy1 hy2 (by decide) (fun e7 e8 e9 e13 e14 e16 e17 => ?_)
  refine nm_r (e' := (2 : Int32)) (by decide) ?_
  refine br_t (by decide) ?_
  exact h _ _ _ _ _ _ _ _ _
end
end
section
section
variable {post : St2 → Prop} {po2 : Int32 → St2 → Prop} {po1 : Int32 → Prop} {k1 k2 k3 k4 k5 k6 k7 k8 k9 k10 k11 k12 k13 k14 k15 k16 k17 k18 : Int32} {a1 a2 a3 a4 a5 a6 a7 a8 a9 a10 a11 a12 a13 a14 a15 a16 a17 a18 a19 a20 a21 : Nat → Int32} {y : Int32}
theorem bz_seenL {p : Int32} (v : Int32) (hp : p = v) (h0 : v / 5 = 0) (h1 : 1 < v - v / 5 * 5) (h : po1 1) : wpX_isSeen po1 (2, k2, k3, k4, k5, k6, k7, k8, k9, k10, k11, k12, k13, k14, k15, k16, k17, k18, a1, a2, a3, a4, a5, a6, a7, a8, a9, a10, a11, a12, a13, a14, a15, a16, a17, a18, a19, a20, a21) 0 p := by
  subst hp
  unfold wpX_isSeen
  refine ⟨by decide, nm_r h0 (br_f (by decide) ?_)⟩
  refine bz_hops rfl (by decide) (by decide) ?_
  exact br_t (by decide) ⟨by decide, br_t h1 h⟩
theorem bz_seen5 {p m : Int32} (hp : p = 5) (hm : m - m / 3 * 3 = m) (h1 : ¬ m ≤ 0) (h : po1 1) : wpX_isSeen po1 (2, k2, k3, k4, k5, k6, k7, k8, k9, k10, k11, k12, k13, k14, k15, k16, k17, k18, a1, bz_a2 m, a3, a4, a5, a6, a7, a8, a9, a10, a11, a12, a13, a14, a15, a16, a17, a18, a19, a20, a21) 1 p := by
  subst hp
  unfold wpX_isSeen
  refine ⟨by decide, nm_r (e' := (1 : Int32)) (by decide) (br_f (by decide) ?_)⟩
  refine bz_hops rfl (by decide) (by decide) ?_
  refine br_t (by decide) ⟨by decide, br_f (by decide) ⟨by decide, ?_⟩⟩
  refine bz_mode0 1 m rfl (by decide) (by decide) (by exact hm) ?_
  exact br_f h1 h
theorem bz_bf0_12 (h : po1 1) : wpX_bodyFits po1 (2, 2, 2, k4, k5, k6, k7, k8, k9, k10, k11, k12, k13, k14, k15, k16, k17, k18, bz_a1, bz_a2 1, bz_a3, bz_a4, bz_a5 y 2, bz_a6, bz_a7, bz_a8, bz_a9, bz_a10, bz_a11, bz_a12, a13, a14, a15, a16, a17, a18, a19, a20, a21) 0 := by
  unfold wpX_bodyFits
  refine ⟨vp_in_iff.mpr (by decide), ?_⟩
  refine nm_r (e' := (2 : Int64)) (by decide) ?_
  refine ⟨vp_in_iff.mpr (by decide), ?_⟩
  refine nm_r (e' := (1 : Int32)) (by decide) ?_
  refine Exists.intro 3 ?_
  refine br_f (by decide) ?_
  refine br_f (by decide) ?_
  unfold wpX_statesIn
  refine ⟨vp_in_iff.mpr (by decide), ?_⟩
  refine nm_r (e' := (5 : Int32)) (by decide) ?_
  refine br_f (by decide) ?_
  refine br_f (by decide) ?_
  refine br_f (by decide) ?_
  refine nm_r (e' := (2 : Int64)) (by decide) ?_
  unfold wpX_expressionsIn
  refine ⟨vp_in_iff.mpr (by decide), ?_⟩
  refine nm_r (e' := (5 : Int32)) (by decide) ?_
  refine br_f (by decide) ?_
  refine br_f (by decide) ?_
  refine br_f (by decide) ?_
  refine br_f (by decide) ?_
  refine br_t (by decide) ?_
  refine ⟨vp_in_iff.mpr (by decide), ?_⟩
  refine nm_r (e' := (1 : Int32)) (by decide) ?_
  refine bz_mode0 1 1 (by decide) (by decide) rfl (by decide) ?_
  refine br_f (by decide) ?_
  refine ⟨vp_in_iff.mpr (by decide), ?_⟩
  unfold wX_expressionsIn_79
  refine bz_mode1 1 0 (by decide) (by decide) (by decide) (by decide) ?_
  refine br_t (by decide) ?_
  refine nm_r (e' := (2 : Int64)) (by decide) ?_
  refine ⟨vp_in_iff.mpr (by decide), ?_⟩
  refine br_f (by decide) ?_
  unfold wX_bodyFits_86
  refine ⟨vp_in_iff.mpr (by decide), ?_⟩
  refine br_t (by decide) ?_
  refine ⟨vp_in_iff.mpr (by decide), ?_⟩
  refine br_f (by decide) ?_
  refine ⟨vp_in_iff.mpr (by decide), vp_in_iff.mpr (by decide), ?_⟩
  refine bz_hops (show (0 : Int32) = bz_a1 1 by decide) (by decide) (by decide) ?_
  refine br_t (by decide) ?_
  refine nm_r (e' := (0 : Int32)) (by decide) ?_
  refine br_f (by decide) ?_
  refine br_t (by decide) ?_
  refine nm_r (e' := (-1 : Int32)) (by decide) ?_
  refine br_t (by decide) ?_
  refine nm_r (e' := (1 : Int32)) (by decide) ?_
  refine Exists.intro 3 ?_
  refine br_f (by decide) ?_
  refine br_f (by decide) ?_
  refine ⟨vp_in_iff.mpr (by decide), ?_⟩
  refine nm_r (e' := (1 : Int32)) (by decide) ?_
  refine br_t (by decide) ?_
  refine ⟨vp_in_iff.mpr (by decide), ?_⟩
  refine bz_seenL 2 rfl (by decide) (by decide) ?_
  refine br_f (by decide) ?_
  unfold wX_bodyFits_195
  refine br_t (by decide) ?_
  unfold wX_bodyFits_215
  refine br_t (by decide) ?_
  refine nm_r (e' := (0 : Int32)) (by decide) ?_
  refine br_f (by decide) ?_
  refine br_t (by decide) ?_
  refine nm_r (e' := (-1 : Int32)) (by decide) ?_
  refine br_t (by decide) ?_
  exact h
theorem bz_bf1_12 (h : po1 1) : wpX_bodyFits po1 (2, 2, 2, k4, k5, k6, k7, k8, k9, k10, k11, k12, k13, k14, k15, k16, k17, k18, bz_a1, bz_a2 1, bz_a3, bz_a4, bz_a5 y 2, bz_a6, bz_a7, bz_a8, bz_a9, bz_a10, bz_a11, bz_a12, a13, a14, a15, a16, a17, a18, a19, a20, a21) 1 := by
  unfold wpX_bodyFits
  refine ⟨vp_in_iff.mpr (by decide), ?_⟩
  refine nm_r (e' := (1 : Int64)) (by decide) ?_
  refine ⟨vp_in_iff.mpr (by decide), ?_⟩
  refine nm_r (e' := (0 : Int32)) (by decide) ?_
  refine Exists.intro 2 ?_
  refine br_f (by decide) ?_
  refine br_f (by decide) ?_
  unfold wpX_statesIn
  refine ⟨vp_in_iff.mpr (by decide), ?_⟩
  refine nm_r (e' := (0 : Int32)) (by decide) ?_
  refine br_f (by decide) ?_
  refine br_f (by decide) ?_
  refine br_f (by decide) ?_
  refine nm_r (e' := (1 : Int64)) (by decide) ?_
  unfold wpX_expressionsIn
  refine ⟨vp_in_iff.mpr (by decide), ?_⟩
  refine nm_r (e' := (0 : Int32)) (by decide) ?_
  refine br_t (by decide) ?_
  refine ⟨vp_in_iff.mpr (by decide), ?_⟩
  refine nm_r (e' := (1 : Int64)) (by decide) ?_
  refine ⟨vp_in_iff.mpr (by decide), ?_⟩
  refine br_t (by decide) ?_
  refine ⟨vp_in_iff.mpr (by decide), ?_⟩
  refine bz_seen5 (by decide) (by decide) (by decide) ?_
  refine br_f (by decide) ?_
  unfold wX_bodyFits_86
  refine ⟨vp_in_iff.mpr (by decide), ?_⟩
  refine br_f (by decide) ?_
  refine nm_r (e' := (-1 : Int32)) (by decide) ?_
  refine br_t (by decide) ?_
  refine nm_r (e' := (1 : Int32)) (by decide) ?_
  refine Exists.intro 3 ?_
  refine br_f (by decide) ?_
  refine br_t (by decide) ?_
  refine nm_r (e' := (0 : Int32)) (by decide) ?_
  refine br_f (by decide) ?_
  refine br_f (by decide) ?_
  refine ⟨vp_in_iff.mpr (by decide), ?_⟩
  refine nm_r (e' := (0 : Int32)) (by decide) ?_
  refine br_f (by decide) ?_
  unfold wX_bodyFits_195
  refine br_t (by decide) ?_
  unfold wX_bodyFits_215
  refine br_t (by decide) ?_
  refine nm_r (e' := (-1 : Int32)) (by decide) ?_
  refine br_t (by decide) ?_
  exact h
theorem bz_va_12 (h : po1 1) : wpX_valid po1 (2, 2, 2, k4, k5, k6, k7, k8, k9, k10, k11, k12, k13, k14, k15, k16, k17, k18, bz_a1, bz_a2 1, bz_a3, bz_a4, bz_a5 y 2, bz_a6, bz_a7, bz_a8, bz_a9, bz_a10, bz_a11, bz_a12, a13, a14, a15, a16, a17, a18, a19, a20, a21) := by
  unfold wpX_valid
  refine br_f (by decide) ?_
  refine Exists.intro 3 ?_
  refine br_f (by decide) ?_
  refine ⟨vp_in_iff.mpr (by decide), ?_⟩
  refine br_f (by decide) ?_
  refine bz_bf0_12 ?_
  refine br_f (by decide) ?_
  refine nm_r (e' := (1 : Int32)) (by decide) ?_
  refine br_f (by decide) ?_
  refine ⟨vp_in_iff.mpr (by decide), ?_⟩
  refine br_f (by decide) ?_
  refine bz_bf1_12 ?_
  refine br_f (by decide) ?_
  refine nm_r (e' := (2 : Int32)) (by decide) ?_
  refine br_t (by decide) ?_
  exact h
theorem bz_bf0_13 (h : po1 1) : wpX_bodyFits po1 (2, 2, 2, k4, k5, k6, k7, k8, k9, k10, k11, k12, k13, k14, k15, k16, k17, k18, bz_a1, bz_a2 1, bz_a3, bz_a4, bz_a5 y 3, bz_a6, bz_a7, bz_a8, bz_a9, bz_a10, bz_a11, bz_a12, a13, a14, a15, a16, a17, a18, a19, a20, a21) 0 := by
  unfold wpX_bodyFits
  refine ⟨vp_in_iff.mpr (by decide), ?_⟩
  refine nm_r (e' := (2 : Int64)) (by decide) ?_
  refine ⟨vp_in_iff.mpr (by decide), ?_⟩
  refine nm_r (e' := (1 : Int32)) (by decide) ?_
  refine Exists.intro 3 ?_
  refine br_f (by decide) ?_
  refine br_f (by decide) ?_
  unfold wpX_statesIn
  refine ⟨vp_in_iff.mpr (by decide), ?_⟩
  refine nm_r (e' := (5 : Int32)) (by decide) ?_
  refine br_f (by decide) ?_
  refine br_f (by decide) ?_
  refine br_f (by decide) ?_
  refine nm_r (e' := (2 : Int64)) (by decide) ?_
  unfold wpX_expressionsIn
  refine ⟨vp_in_iff.mpr (by decide), ?_⟩
  refine nm_r (e' := (5 : Int32)) (by decide) ?_
  refine br_f (by decide) ?_
  refine br_f (by decide) ?_
  refine br_f (by decide) ?_
  refine br_f (by decide) ?_
  refine br_t (by decide) ?_
  refine ⟨vp_in_iff.mpr (by decide), ?_⟩
  refine nm_r (e' := (1 : Int32)) (by decide) ?_
  refine bz_mode0 1 1 (by decide) (by decide) rfl (by decide) ?_
  refine br_f (by decide) ?_
  refine ⟨vp_in_iff.mpr (by decide), ?_⟩
  unfold wX_expressionsIn_79
  refine bz_mode1 1 0 (by decide) (by decide) (by decide) (by decide) ?_
  refine br_t (by decide) ?_
  refine nm_r (e' := (2 : Int64)) (by decide) ?_
  refine ⟨vp_in_iff.mpr (by decide), ?_⟩
  refine br_f (by decide) ?_
  unfold wX_bodyFits_86
  refine ⟨vp_in_iff.mpr (by decide), ?_⟩
  refine br_t (by decide) ?_
  refine ⟨vp_in_iff.mpr (by decide), ?_⟩
  refine br_f (by decide) ?_
  refine ⟨vp_in_iff.mpr (by decide), vp_in_iff.mpr (by decide), ?_⟩
  refine bz_hops (show (0 : Int32) = bz_a1 1 by decide) (by decide) (by decide) ?_
  refine br_t (by decide) ?_
  refine nm_r (e' := (0 : Int32)) (by decide) ?_
  refine br_f (by decide) ?_
  refine br_t (by decide) ?_
  refine nm_r (e' := (-1 : Int32)) (by decide) ?_
  refine br_t (by decide) ?_
  refine nm_r (e' := (1 : Int32)) (by decide) ?_
  refine Exists.intro 3 ?_
  refine br_f (by decide) ?_
  refine br_f (by decide) ?_
  refine ⟨vp_in_iff.mpr (by decide), ?_⟩
  refine nm_r (e' := (1 : Int32)) (by decide) ?_
  refine br_t (by decide) ?_
  refine ⟨vp_in_iff.mpr (by decide), ?_⟩
  refine bz_seenL 3 rfl (by decide) (by decide) ?_
  refine br_f (by decide) ?_
  unfold wX_bodyFits_195
  refine br_t (by decide) ?_
  unfold wX_bodyFits_215
  refine br_t (by decide) ?_
  refine nm_r (e' := (0 : Int32)) (by decide) ?_
  refine br_f (by decide) ?_
  refine br_t (by decide) ?_
  refine nm_r (e' := (-1 : Int32)) (by decide) ?_
  refine br_t (by decide) ?_
  exact h
theorem bz_bf1_13 (h : po1 1) : wpX_bodyFits po1 (2, 2, 2, k4, k5, k6, k7, k8, k9, k10, k11, k12, k13, k14, k15, k16, k17, k18, bz_a1, bz_a2 1, bz_a3, bz_a4, bz_a5 y 3, bz_a6, bz_a7, bz_a8, bz_a9, bz_a10, bz_a11, bz_a12, a13, a14, a15, a16, a17, a18, a19, a20, a21) 1 := by
  unfold wpX_bodyFits
  refine ⟨vp_in_iff.mpr (by decide), ?_⟩
  refine nm_r (e' := (1 : Int64)) (by decide) ?_
  refine ⟨vp_in_iff.mpr (by decide), ?_⟩
  refine nm_r (e' := (0 : Int32)) (by decide) ?_
  refine Exists.intro 2 ?_
  refine br_f (by decide) ?_
  refine br_f (by decide) ?_
  unfold wpX_statesIn
  refine ⟨vp_in_iff.mpr (by decide), ?_⟩
  refine nm_r (e' := (0 : Int32)) (by decide) ?_
  refine br_f (by decide) ?_
  refine br_f (by decide) ?_
  refine br_f (by decide) ?_
  refine nm_r (e' := (1 : Int64)) (by decide) ?_
  unfold wpX_expressionsIn
  refine ⟨vp_in_iff.mpr (by decide), ?_⟩
  refine nm_r (e' := (0 : Int32)) (by decide) ?_
  refine br_t (by decide) ?_
  refine ⟨vp_in_iff.mpr (by decide), ?_⟩
  refine nm_r (e' := (1 : Int64)) (by decide) ?_
  refine ⟨vp_in_iff.mpr (by decide), ?_⟩
  refine br_t (by decide) ?_
  refine ⟨vp_in_iff.mpr (by decide), ?_⟩
  refine bz_seen5 (by decide) (by decide) (by decide) ?_
  refine br_f (by decide) ?_
  unfold wX_bodyFits_86
  refine ⟨vp_in_iff.mpr (by decide), ?_⟩
  refine br_f (by decide) ?_
  refine nm_r (e' := (-1 : Int32)) (by decide) ?_
  refine br_t (by decide) ?_
  refine nm_r (e' := (1 : Int32)) (by decide) ?_
  refine Exists.intro 3 ?_
  refine br_f (by decide) ?_
  refine br_t (by decide) ?_
  refine nm_r (e' := (0 : Int32)) (by decide) ?_
  refine br_f (by decide) ?_
  refine br_f (by decide) ?_
  refine ⟨vp_in_iff.mpr (by decide), ?_⟩
  refine nm_r (e' := (0 : Int32)) (by decide) ?_
  refine br_f (by decide) ?_
  unfold wX_bodyFits_195
  refine br_t (by decide) ?_
  unfold wX_bodyFits_215
  refine br_t (by decide) ?_
  refine nm_r (e' := (-1 : Int32)) (by decide) ?_
  refine br_t (by decide) ?_
  exact h
theorem bz_va_13 (h : po1 1) : wpX_valid po1 (2, 2, 2, k4, k5, k6, k7, k8, k9, k10, k11, k12, k13, k14, k15, k16, k17, k18, bz_a1, bz_a2 1, bz_a3, bz_a4, bz_a5 y 3, bz_a6, bz_a7, bz_a8, bz_a9, bz_a10, bz_a11, bz_a12, a13, a14, a15, a16, a17, a18, a19, a20, a21) := by
  unfold wpX_valid
  refine br_f (by decide) ?_
  refine Exists.intro 3 ?_
  refine br_f (by decide) ?_
  refine ⟨vp_in_iff.mpr (by decide), ?_⟩
  refine br_f (by decide) ?_
  refine bz_bf0_13 ?_
  refine br_f (by decide) ?_
  refine nm_r (e' := (1 : Int32)) (by decide) ?_
  refine br_f (by decide) ?_
  refine ⟨vp_in_iff.mpr (by decide), ?_⟩
  refine br_f (by decide) ?_
  refine bz_bf1_13 ?_
  refine br_f (by decide) ?_
  refine nm_r (e' := (2 : Int32)) (by decide) ?_
  refine br_t (by decide) ?_
  exact h
theorem bz_bf0_14 (h : po1 1) : wpX_bodyFits po1 (2, 2, 2, k4, k5, k6, k7, k8, k9, k10, k11, k12, k13, k14, k15, k16, k17, k18, bz_a1, bz_a2 1, bz_a3, bz_a4, bz_a5 y 4, bz_a6, bz_a7, bz_a8, bz_a9, bz_a10, bz_a11, bz_a12, a13, a14, a15, a16, a17, a18, a19, a20, a21) 0 := by
  unfold wpX_bodyFits
  refine ⟨vp_in_iff.mpr (by decide), ?_⟩
  refine nm_r (e' := (2 : Int64)) (by decide) ?_
  refine ⟨vp_in_iff.mpr (by decide), ?_⟩
  refine nm_r (e' := (1 : Int32)) (by decide) ?_
  refine Exists.intro 3 ?_
  refine br_f (by decide) ?_
  refine br_f (by decide) ?_
  unfold wpX_statesIn
  refine ⟨vp_in_iff.mpr (by decide), ?_⟩
  refine nm_r (e' := (5 : Int32)) (by decide) ?_
  refine br_f (by decide) ?_
  refine br_f (by decide) ?_
  refine br_f (by decide) ?_
  refine nm_r (e' := (2 : Int64)) (by decide) ?_
  unfold wpX_expressionsIn
  refine ⟨vp_in_iff.mpr (by decide), ?_⟩
  refine nm_r (e' := (5 : Int32)) (by decide) ?_
  refine br_f (by decide) ?_
  refine br_f (by decide) ?_
  refine br_f (by decide) ?_
  refine br_f (by decide) ?_
  refine br_t (by decide) ?_
  refine ⟨vp_in_iff.mpr (by decide), ?_⟩
  refine nm_r (e' := (1 : Int32)) (by decide) ?_
  refine bz_mode0 1 1 (by decide) (by decide) rfl (by decide) ?_
  refine br_f (by decide) ?_
  refine ⟨vp_in_iff.mpr (by decide), ?_⟩
  unfold wX_expressionsIn_79
  refine bz_mode1 1 0 (by decide) (by decide) (by decide) (by decide) ?_
  refine br_t (by decide) ?_
  refine nm_r (e' := (2 : Int64)) (by decide) ?_
  refine ⟨vp_in_iff.mpr (by decide), ?_⟩
  refine br_f (by decide) ?_
  unfold wX_bodyFits_86
  refine ⟨vp_in_iff.mpr (by decide), ?_⟩
  refine br_t (by decide) ?_
  refine ⟨vp_in_iff.mpr (by decide), ?_⟩
  refine br_f (by decide) ?_
  refine ⟨vp_in_iff.mpr (by decide), vp_in_iff.mpr (by decide), ?_⟩
  refine bz_hops (show (0 : Int32) = bz_a1 1 by decide) (by decide) (by decide) ?_
  refine br_t (by decide) ?_
  refine nm_r (e' := (0 : Int32)) (by decide) ?_
  refine br_f (by decide) ?_
  refine br_t (by decide) ?_
  refine nm_r (e' := (-1 : Int32)) (by decide) ?_
  refine br_t (by decide) ?_
  refine nm_r (e' := (1 : Int32)) (by decide) ?_
  refine Exists.intro 3 ?_
  refine br_f (by decide) ?_
  refine br_f (by decide) ?_
  refine ⟨vp_in_iff.mpr (by decide), ?_⟩
  refine nm_r (e' := (1 : Int32)) (by decide) ?_
  refine br_t (by decide) ?_
  refine ⟨vp_in_iff.mpr (by decide), ?_⟩
  refine bz_seenL 4 rfl (by decide) (by decide) ?_
  refine br_f (by decide) ?_
  unfold wX_bodyFits_195
  refine br_t (by decide) ?_
  unfold wX_bodyFits_215
  refine br_t (by decide) ?_
  refine nm_r (e' := (0 : Int32)) (by decide) ?_
  refine br_f (by decide) ?_
  refine br_t (by decide) ?_
  refine nm_r (e' := (-1 : Int32)) (by decide) ?_
  refine br_t (by decide) ?_
  exact h
theorem bz_bf1_14 (h : po1 1) : wpX_bodyFits po1 (2, 2, 2, k4, k5, k6, k7, k8, k9, k10, k11, k12, k13, k14, k15, k16, k17, k18, bz_a1, bz_a2 1, bz_a3, bz_a4, bz_a5 y 4, bz_a6, bz_a7, bz_a8, bz_a9, bz_a10, bz_a11, bz_a12, a13, a14, a15, a16, a17, a18, a19, a20, a21) 1 := by
  unfold wpX_bodyFits
  refine ⟨vp_in_iff.mpr (by decide), ?_⟩
  refine nm_r (e' := (1 : Int64)) (by decide) ?_
  refine ⟨vp_in_iff.mpr (by decide), ?_⟩
  refine nm_r (e' := (0 : Int32)) (by decide) ?_
  refine Exists.intro 2 ?_
  refine br_f (by decide) ?_
  refine br_f (by decide) ?_
  unfold wpX_statesIn
  refine ⟨vp_in_iff.mpr (by decide), ?_⟩
  refine nm_r (e' := (0 : Int32)) (by decide) ?_
  refine br_f (by decide) ?_
  refine br_f (by decide) ?_
  refine br_f (by decide) ?_
  refine nm_r (e' := (1 : Int64)) (by decide) ?_
  unfold wpX_expressionsIn
  refine ⟨vp_in_iff.mpr (by decide), ?_⟩
  refine nm_r (e' := (0 : Int32)) (by decide) ?_
  refine br_t (by decide) ?_
  refine ⟨vp_in_iff.mpr (by decide), ?_⟩
  refine nm_r (e' := (1 : Int64)) (by decide) ?_
  refine ⟨vp_in_iff.mpr (by decide), ?_⟩
  refine br_t (by decide) ?_
  refine ⟨vp_in_iff.mpr (by decide), ?_⟩
  refine bz_seen5 (by decide) (by decide) (by decide) ?_
  refine br_f (by decide) ?_
  unfold wX_bodyFits_86
  refine ⟨vp_in_iff.mpr (by decide), ?_⟩
  refine br_f (by decide) ?_
  refine nm_r (e' := (-1 : Int32)) (by decide) ?_
  refine br_t (by decide) ?_
  refine nm_r (e' := (1 : Int32)) (by decide) ?_
  refine Exists.intro 3 ?_
  refine br_f (by decide) ?_
  refine br_t (by decide) ?_
  refine nm_r (e' := (0 : Int32)) (by decide) ?_
  refine br_f (by decide) ?_
  refine br_f (by decide) ?_
  refine ⟨vp_in_iff.mpr (by decide), ?_⟩
  refine nm_r (e' := (0 : Int32)) (by decide) ?_
  refine br_f (by decide) ?_
  unfold wX_bodyFits_195
  refine br_t (by decide) ?_
  unfold wX_bodyFits_215
  refine br_t (by decide) ?_
  refine nm_r (e' := (-1 : Int32)) (by decide) ?_
  refine br_t (by decide) ?_
  exact h
theorem bz_va_14 (h : po1 1) : wpX_valid po1 (2, 2, 2, k4, k5, k6, k7, k8, k9, k10, k11, k12, k13, k14, k15, k16, k17, k18, bz_a1, bz_a2 1, bz_a3, bz_a4, bz_a5 y 4, bz_a6, bz_a7, bz_a8, bz_a9, bz_a10, bz_a11, bz_a12, a13, a14, a15, a16, a17, a18, a19, a20, a21) := by
  unfold wpX_valid
  refine br_f (by decide) ?_
  refine Exists.intro 3 ?_
  refine br_f (by decide) ?_
  refine ⟨vp_in_iff.mpr (by decide), ?_⟩
  refine br_f (by decide) ?_
  refine bz_bf0_14 ?_
  refine br_f (by decide) ?_
  refine nm_r (e' := (1 : Int32)) (by decide) ?_
  refine br_f (by decide) ?_
  refine ⟨vp_in_iff.mpr (by decide), ?_⟩
  refine br_f (by decide) ?_
  refine bz_bf1_14 ?_
  refine br_f (by decide) ?_
  refine nm_r (e' := (2 : Int32)) (by decide) ?_
  refine br_t (by decide) ?_
  exact h
theorem bz_bf0_22 (h : po1 1) : wpX_bodyFits po1 (2, 2, 2, k4, k5, k6, k7, k8, k9, k10, k11, k12, k13, k14, k15, k16, k17, k18, bz_a1, bz_a2 2, bz_a3, bz_a4, bz_a5 y 2, bz_a6, bz_a7, bz_a8, bz_a9, bz_a10, bz_a11, bz_a12, a13, a14, a15, a16, a17, a18, a19, a20, a21) 0 := by
  unfold wpX_bodyFits
  refine ⟨vp_in_iff.mpr (by decide), ?_⟩
  refine nm_r (e' := (2 : Int64)) (by decide) ?_
  refine ⟨vp_in_iff.mpr (by decide), ?_⟩
  refine nm_r (e' := (1 : Int32)) (by decide) ?_
  refine Exists.intro 3 ?_
  refine br_f (by decide) ?_
  refine br_f (by decide) ?_
  unfold wpX_statesIn
  refine ⟨vp_in_iff.mpr (by decide), ?_⟩
  refine nm_r (e' := (5 : Int32)) (by decide) ?_
  refine br_f (by decide) ?_
  refine br_f (by decide) ?_
  refine br_f (by decide) ?_
  refine nm_r (e' := (2 : Int64)) (by decide) ?_
  unfold wpX_expressionsIn
  refine ⟨vp_in_iff.mpr (by decide), ?_⟩
  refine nm_r (e' := (5 : Int32)) (by decide) ?_
  refine br_f (by decide) ?_
  refine br_f (by decide) ?_
  refine br_f (by decide) ?_
  refine br_f (by decide) ?_
  refine br_t (by decide) ?_
  refine ⟨vp_in_iff.mpr (by decide), ?_⟩
  refine nm_r (e' := (1 : Int32)) (by decide) ?_
  refine bz_mode0 1 2 (by decide) (by decide) rfl (by decide) ?_
  refine br_f (by decide) ?_
  refine ⟨vp_in_iff.mpr (by decide), ?_⟩
  unfold wX_expressionsIn_79
  refine bz_mode1 1 0 (by decide) (by decide) (by decide) (by decide) ?_
  refine br_t (by decide) ?_
  refine nm_r (e' := (2 : Int64)) (by decide) ?_
  refine ⟨vp_in_iff.mpr (by decide), ?_⟩
  refine br_f (by decide) ?_
  unfold wX_bodyFits_86
  refine ⟨vp_in_iff.mpr (by decide), ?_⟩
  refine br_t (by decide) ?_
  refine ⟨vp_in_iff.mpr (by decide), ?_⟩
  refine br_f (by decide) ?_
  refine ⟨vp_in_iff.mpr (by decide), vp_in_iff.mpr (by decide), ?_⟩
  refine bz_hops (show (0 : Int32) = bz_a1 1 by decide) (by decide) (by decide) ?_
  refine br_t (by decide) ?_
  refine nm_r (e' := (0 : Int32)) (by decide) ?_
  refine br_f (by decide) ?_
  refine br_t (by decide) ?_
  refine nm_r (e' := (-1 : Int32)) (by decide) ?_
  refine br_t (by decide) ?_
  refine nm_r (e' := (1 : Int32)) (by decide) ?_
  refine Exists.intro 3 ?_
  refine br_f (by decide) ?_
  refine br_f (by decide) ?_
  refine ⟨vp_in_iff.mpr (by decide), ?_⟩
  refine nm_r (e' := (1 : Int32)) (by decide) ?_
  refine br_t (by decide) ?_
  refine ⟨vp_in_iff.mpr (by decide), ?_⟩
  refine bz_seenL 2 rfl (by decide) (by decide) ?_
  refine br_f (by decide) ?_
  unfold wX_bodyFits_195
  refine br_t (by decide) ?_
  unfold wX_bodyFits_215
  refine br_t (by decide) ?_
  refine nm_r (e' := (0 : Int32)) (by decide) ?_
  refine br_f (by decide) ?_
  refine br_t (by decide) ?_
  refine nm_r (e' := (-1 : Int32)) (by decide) ?_
  refine br_t (by decide) ?_
  exact h
theorem bz_bf1_22 (h : po1 1) : wpX_bodyFits po1 (2, 2, 2, k4, k5, k6, k7, k8, k9, k10, k11, k12, k13, k14, k15, k16, k17, k18, bz_a1, bz_a2 2, bz_a3, bz_a4, bz_a5 y 2, bz_a6, bz_a7, bz_a8, bz_a9, bz_a10, bz_a11, bz_a12, a13, a14, a15, a16, a17, a18, a19, a20, a21) 1 := by
  unfold wpX_bodyFits
  refine ⟨vp_in_iff.mpr (by decide), ?_⟩
  refine nm_r (e' := (1 : Int64)) (by decide) ?_
  refine ⟨vp_in_iff.mpr (by decide), ?_⟩
  refine nm_r (e' := (0 : Int32)) (by decide) ?_
  refine Exists.intro 2 ?_
  refine br_f (by decide) ?_
  refine br_f (by decide) ?_
  unfold wpX_statesIn
  refine ⟨vp_in_iff.mpr (by decide), ?_⟩
  refine nm_r (e' := (0 : Int32)) (by decide) ?_
  refine br_f (by decide) ?_
  refine br_f (by decide) ?_
  refine br_f (by decide) ?_
  refine nm_r (e' := (1 : Int64)) (by decide) ?_
  unfold wpX_expressionsIn
  refine ⟨vp_in_iff.mpr (by decide), ?_⟩
  refine nm_r (e' := (0 : Int32)) (by decide) ?_
  refine br_t (by decide) ?_
  refine ⟨vp_in_iff.mpr (by decide), ?_⟩
  refine nm_r (e' := (1 : Int64)) (by decide) ?_
  refine ⟨vp_in_iff.mpr (by decide), ?_⟩
  refine br_t (by decide) ?_
  refine ⟨vp_in_iff.mpr (by decide), ?_⟩
  refine bz_seen5 (by decide) (by decide) (by decide) ?_
  refine br_f (by decide) ?_
  unfold wX_bodyFits_86
  refine ⟨vp_in_iff.mpr (by decide), ?_⟩
  refine br_f (by decide) ?_
  refine nm_r (e' := (-1 : Int32)) (by decide) ?_
  refine br_t (by decide) ?_
  refine nm_r (e' := (1 : Int32)) (by decide) ?_
  refine Exists.intro 3 ?_
  refine br_f (by decide) ?_
  refine br_t (by decide) ?_
  refine nm_r (e' := (0 : Int32)) (by decide) ?_
  refine br_f (by decide) ?_
  refine br_f (by decide) ?_
  refine ⟨vp_in_iff.mpr (by decide), ?_⟩
  refine nm_r (e' := (0 : Int32)) (by decide) ?_
  refine br_f (by decide) ?_
  unfold wX_bodyFits_195
  refine br_t (by decide) ?_
  unfold wX_bodyFits_215
  refine br_t (by decide) ?_
  refine nm_r (e' := (-1 : Int32)) (by decide) ?_
  refine br_t (by decide) ?_
  exact h
theorem bz_va_22 (h : po1 1) : wpX_valid po1 (2, 2, 2, k4, k5, k6, k7, k8, k9, k10, k11, k12, k13, k14, k15, k16, k17, k18, bz_a1, bz_a2 2, bz_a3, bz_a4, bz_a5 y 2, bz_a6, bz_a7, bz_a8, bz_a9, bz_a10, bz_a11, bz_a12, a13, a14, a15, a16, a17, a18, a19, a20, a21) := by
  unfold wpX_valid
  refine br_f (by decide) ?_
  refine Exists.intro 3 ?_
  refine br_f (by decide) ?_
  refine ⟨vp_in_iff.mpr (by decide), ?_⟩
  refine br_f (by decide) ?_
  refine bz_bf0_22 ?_
  refine br_f (by decide) ?_
  refine nm_r (e' := (1 : Int32)) (by decide) ?_
  refine br_f (by decide) ?_
  refine ⟨vp_in_iff.mpr (by decide), ?_⟩
  refine br_f (by decide) ?_
  refine bz_bf1_22 ?_
  refine br_f (by decide) ?_
  refine nm_r (e' := (2 : Int32)) (by decide) ?_
  refine br_t (by decide) ?_
  exact h
theorem bz_bf0_23 (h : po1 1) : wpX_bodyFits po1 (2, 2, 2, k4, k5, k6, k7, k8, k9, k10, k11, k12, k13, k14, k15, k16, k17, k18, bz_a1, bz_a2 2, bz_a3, bz_a4, bz_a5 y 3, bz_a6, bz_a7, bz_a8, bz_a9, bz_a10, bz_a11, bz_a12, a13, a14, a15, a16, a17, a18, a19, a20, a21) 0 := by
  unfold wpX_bodyFits
  refine ⟨vp_in_iff.mpr (by decide), ?_⟩
  refine nm_r (e' := (2 : Int64)) (by decide) ?_
  refine ⟨vp_in_iff.mpr (by decide), ?_⟩
  refine nm_r (e' := (1 : Int32)) (by decide) ?_
  refine Exists.intro 3 ?_
  refine br_f (by decide) ?_
  refine br_f (by decide) ?_
  unfold wpX_statesIn
  refine ⟨vp_in_iff.mpr (by decide), ?_⟩
  refine nm_r (e' := (5 : Int32)) (by decide) ?_
  refine br_f (by decide) ?_
  refine br_f (by decide) ?_
  refine br_f (by decide) ?_
  refine nm_r (e' := (2 : Int64)) (by decide) ?_
  unfold wpX_expressionsIn
  refine ⟨vp_in_iff.mpr (by decide), ?_⟩
  refine nm_r (e' := (5 : Int32)) (by decide) ?_
  refine br_f (by decide) ?_
  refine br_f (by decide) ?_
  refine br_f (by decide) ?_
  refine br_f (by decide) ?_
  refine br_t (by decide) ?_
  refine ⟨vp_in_iff.mpr (by decide), ?_⟩
  refine nm_r (e' := (1 : Int32)) (by decide) ?_
  refine bz_mode0 1 2 (by decide) (by decide) rfl (by decide) ?_
  refine br_f (by decide) ?_
  refine ⟨vp_in_iff.mpr (by decide), ?_⟩
  unfold wX_expressionsIn_79
  refine bz_mode1 1 0 (by decide) (by decide) (by decide) (by decide) ?_
  refine br_t (by decide) ?_
  refine nm_r (e' := (2 : Int64)) (by decide) ?_
  refine ⟨vp_in_iff.mpr (by decide), ?_⟩
  refine br_f (by decide) ?_
  unfold wX_bodyFits_86
  refine ⟨vp_in_iff.mpr (by decide), ?_⟩
  refine br_t (by decide) ?_
  refine ⟨vp_in_iff.mpr (by decide), ?_⟩
  refine br_f (by decide) ?_
  refine ⟨vp_in_iff.mpr (by decide), vp_in_iff.mpr (by decide), ?_⟩
  refine bz_hops (show (0 : Int32) = bz_a1 1 by decide) (by decide) (by decide) ?_
  refine br_t (by decide) ?_
  refine nm_r (e' := (0 : Int32)) (by decide) ?_
  refine br_f (by decide) ?_
  refine br_t (by decide) ?_
  refine nm_r (e' := (-1 : Int32)) (by decide) ?_
  refine br_t (by decide) ?_
  refine nm_r (e' := (1 : Int32)) (by decide) ?_
  refine Exists.intro 3 ?_
  refine br_f (by decide) ?_
  refine br_f (by decide) ?_
  refine ⟨vp_in_iff.mpr (by decide), ?_⟩
  refine nm_r (e' := (1 : Int32)) (by decide) ?_
  refine br_t (by decide) ?_
  refine ⟨vp_in_iff.mpr (by decide), ?_⟩
  refine bz_seenL 3 rfl (by decide) (by decide) ?_
  refine br_f (by decide) ?_
  unfold wX_bodyFits_195
  refine br_t (by decide) ?_
  unfold wX_bodyFits_215
  refine br_t (by decide) ?_
  refine nm_r (e' := (0 : Int32)) (by decide) ?_
  refine br_f (by decide) ?_
  refine br_t (by decide) ?_
  refine nm_r (e' := (-1 : Int32)) (by decide) ?_
  refine br_t (by decide) ?_
  exact h
theorem bz_bf1_23 (h : po1 1) : wpX_bodyFits po1 (2, 2, 2, k4, k5, k6, k7, k8, k9, k10, k11, k12, k13, k14, k15, k16, k17, k18, bz_a1, bz_a2 2, bz_a3, bz_a4, bz_a5 y 3, bz_a6, bz_a7, bz_a8, bz_a9, bz_a10, bz_a11, bz_a12, a13, a14, a15, a16, a17, a18, a19, a20, a21) 1 := by
  unfold wpX_bodyFits
  refine ⟨vp_in_iff.mpr (by decide), ?_⟩
  refine nm_r (e' := (1 : Int64)) (by decide) ?_
  refine ⟨vp_in_iff.mpr (by decide), ?_⟩
  refine nm_r (e' := (0 : Int32)) (by decide) ?_
  refine Exists.intro 2 ?_
  refine br_f (by decide) ?_
  refine br_f (by decide) ?_
  unfold wpX_statesIn
  refine ⟨vp_in_iff.mpr (by decide), ?_⟩
  refine nm_r (e' := (0 : Int32)) (by decide) ?_
  refine br_f (by decide) ?_
  refine br_f (by decide) ?_
  refine br_f (by decide) ?_
  refine nm_r (e' := (1 : Int64)) (by decide) ?_
  unfold wpX_expressionsIn
  refine ⟨vp_in_iff.mpr (by decide), ?_⟩
  refine nm_r (e' := (0 : Int32)) (by decide) ?_
  refine br_t (by decide) ?_
  refine ⟨vp_in_iff.mpr (by decide), ?_⟩
  refine nm_r (e' := (1 : Int64)) (by decide) ?_
  refine ⟨vp_in_iff.mpr (by decide), ?_⟩
  refine br_t (by decide) ?_
  refine ⟨vp_in_iff.mpr (by decide), ?_⟩
  refine bz_seen5 (by decide) (by decide) (by decide) ?_
  refine br_f (by decide) ?_
  unfold wX_bodyFits_86
  refine ⟨vp_in_iff.mpr (by decide), ?_⟩
  refine br_f (by decide) ?_
  refine nm_r (e' := (-1 : Int32)) (by decide) ?_
  refine br_t (by decide) ?_
  refine nm_r (e' := (1 : Int32)) (by decide) ?_
  refine Exists.intro 3 ?_
  refine br_f (by decide) ?_
  refine br_t (by decide) ?_
  refine nm_r (e' := (0 : Int32)) (by decide) ?_
  refine br_f (by decide) ?_
  refine br_f (by decide) ?_
  refine ⟨vp_in_iff.mpr (by decide), ?_⟩
  refine nm_r (e' := (0 : Int32)) (by decide) ?_
  refine br_f (by decide) ?_
  unfold wX_bodyFits_195
  refine br_t (by decide) ?_
  unfold wX_bodyFits_215
  refine br_t (by decide) ?_
  refine nm_r (e' := (-1 : Int32)) (by decide) ?_
  refine br_t (by decide) ?_
  exact h
theorem bz_va_23 (h : po1 1) : wpX_valid po1 (2, 2, 2, k4, k5, k6, k7, k8, k9, k10, k11, k12, k13, k14, k15, k16, k17, k18, bz_a1, bz_a2 2, bz_a3, bz_a4, bz_a5 y 3, bz_a6, bz_a7, bz_a8, bz_a9, bz_a10, bz_a11, bz_a12, a13, a14, a15, a16, a17, a18, a19, a20, a21) := by
  unfold wpX_valid
  refine br_f (by decide) ?_
  refine Exists.intro 3 ?_
  refine br_f (by decide) ?_
  refine ⟨vp_in_iff.mpr (by decide), ?_⟩
  refine br_f (by decide) ?_
  refine bz_bf0_23 ?_
  refine br_f (by decide) ?_
  refine nm_r (e' := (1 : Int32)) (by decide) ?_
  refine br_f (by decide) ?_
  refine ⟨vp_in_iff.mpr (by decide), ?_⟩
  refine br_f (by decide) ?_
  refine bz_bf1_23 ?_
  refine br_f (by decide) ?_
  refine nm_r (e' := (2 : Int32)) (by decide) ?_
  refine br_t (by decide) ?_
  exact h
theorem bz_bf0_24 (h : po1 1) : wpX_bodyFits po1 (2, 2, 2, k4, k5, k6, k7, k8, k9, k10, k11, k12, k13, k14, k15, k16, k17, k18, bz_a1, bz_a2 2, bz_a3, bz_a4, bz_a5 y 4, bz_a6, bz_a7, bz_a8, bz_a9, bz_a10, bz_a11, bz_a12, a13, a14, a15, a16, a17, a18, a19, a20, a21) 0 := by
  unfold wpX_bodyFits
  refine ⟨vp_in_iff.mpr (by decide), ?_⟩
  refine nm_r (e' := (2 : Int64)) (by decide) ?_
  refine ⟨vp_in_iff.mpr (by decide), ?_⟩
  refine nm_r (e' := (1 : Int32)) (by decide) ?_
  refine Exists.intro 3 ?_
  refine br_f (by decide) ?_
  refine br_f (by decide) ?_
  unfold wpX_statesIn
  refine ⟨vp_in_iff.mpr (by decide), ?_⟩
  refine nm_r (e' := (5 : Int32)) (by decide) ?_
  refine br_f (by decide) ?_
  refine br_f (by decide) ?_
  refine br_f (by decide) ?_
  refine nm_r (e' := (2 : Int64)) (by decide) ?_
  unfold wpX_expressionsIn
  refine ⟨vp_in_iff.mpr (by decide), ?_⟩
  refine nm_r (e' := (5 : Int32)) (by decide) ?_
  refine br_f (by decide) ?_
  refine br_f (by decide) ?_
  refine br_f (by decide) ?_
  refine br_f (by decide) ?_
  refine br_t (by decide) ?_
  refine ⟨vp_in_iff.mpr (by decide), ?_⟩
  refine nm_r (e' := (1 : Int32)) (by decide) ?_
  refine bz_mode0 1 2 (by decide) (by decide) rfl (by decide) ?_
  refine br_f (by decide) ?_
  refine ⟨vp_in_iff.mpr (by decide), ?_⟩
  unfold wX_expressionsIn_79
  refine bz_mode1 1 0 (by decide) (by decide) (by decide) (by decide) ?_
  refine br_t (by decide) ?_
  refine nm_r (e' := (2 : Int64)) (by decide) ?_
  refine ⟨vp_in_iff.mpr (by decide), ?_⟩
  refine br_f (by decide) ?_
  unfold wX_bodyFits_86
  refine ⟨vp_in_iff.mpr (by decide), ?_⟩
  refine br_t (by decide) ?_
  refine ⟨vp_in_iff.mpr (by decide), ?_⟩
  refine br_f (by decide) ?_
  refine ⟨vp_in_iff.mpr (by decide), vp_in_iff.mpr (by decide), ?_⟩
  refine bz_hops (show (0 : Int32) = bz_a1 1 by decide) (by decide) (by decide) ?_
  refine br_t (by decide) ?_
  refine nm_r (e' := (0 : Int32)) (by decide) ?_
  refine br_f (by decide) ?_
  refine br_t (by decide) ?_
  refine nm_r (e' := (-1 : Int32)) (by decide) ?_
  refine br_t (by decide) ?_
  refine nm_r (e' := (1 : Int32)) (by decide) ?_
  refine Exists.intro 3 ?_
  refine br_f (by decide) ?_
  refine br_f (by decide) ?_
  refine ⟨vp_in_iff.mpr (by decide), ?_⟩
  refine nm_r (e' := (1 : Int32)) (by decide) ?_
  refine br_t (by decide) ?_
  refine ⟨vp_in_iff.mpr (by decide), ?_⟩
  refine bz_seenL 4 rfl (by decide) (by decide) ?_
  refine br_f (by decide) ?_
  unfold wX_bodyFits_195
  refine br_t (by decide) ?_
  unfold wX_bodyFits_215
  refine br_t (by decide) ?_
  refine nm_r (e' := (0 : Int32)) (by decide) ?_
  refine br_f (by decide) ?_
  refine br_t (by decide) ?_
  refine nm_r (e' := (-1 : Int32)) (by decide) ?_
  refine br_t (by decide) ?_
  exact h
theorem bz_bf1_24 (h : po1 1) : wpX_bodyFits po1 (2, 2, 2, k4, k5, k6, k7, k8, k9, k10, k11, k12, k13, k14, k15, k16, k17, k18, bz_a1, bz_a2 2, bz_a3, bz_a4, bz_a5 y 4, bz_a6, bz_a7, bz_a8, bz_a9, bz_a10, bz_a11, bz_a12, a13, a14, a15, a16, a17, a18, a19, a20, a21) 1 := by
  unfold wpX_bodyFits
  refine ⟨vp_in_iff.mpr (by decide), ?_⟩
  refine nm_r (e' := (1 : Int64)) (by decide) ?_
  refine ⟨vp_in_iff.mpr (by decide), ?_⟩
  refine nm_r (e' := (0 : Int32)) (by decide) ?_
  refine Exists.intro 2 ?_
  refine br_f (by decide) ?_
  refine br_f (by decide) ?_
  unfold wpX_statesIn
  refine ⟨vp_in_iff.mpr (by decide), ?_⟩
  refine nm_r (e' := (0 : Int32)) (by decide) ?_
  refine br_f (by decide) ?_
  refine br_f (by decide) ?_
  refine br_f (by decide) ?_
  refine nm_r (e' := (1 : Int64)) (by decide) ?_
  unfold wpX_expressionsIn
  refine ⟨vp_in_iff.mpr (by decide), ?_⟩
  refine nm_r (e' := (0 : Int32)) (by decide) ?_
  refine br_t (by decide) ?_
  refine ⟨vp_in_iff.mpr (by decide), ?_⟩
  refine nm_r (e' := (1 : Int64)) (by decide) ?_
  refine ⟨vp_in_iff.mpr (by decide), ?_⟩
  refine br_t (by decide) ?_
  refine ⟨vp_in_iff.mpr (by decide), ?_⟩
  refine bz_seen5 (by decide) (by decide) (by decide) ?_
  refine br_f (by decide) ?_
  unfold wX_bodyFits_86
  refine ⟨vp_in_iff.mpr (by decide), ?_⟩
  refine br_f (by decide) ?_
  refine nm_r (e' := (-1 : Int32)) (by decide) ?_
  refine br_t (by decide) ?_
  refine nm_r (e' := (1 : Int32)) (by decide) ?_
  refine Exists.intro 3 ?_
  refine br_f (by decide) ?_
  refine br_t (by decide) ?_
  refine nm_r (e' := (0 : Int32)) (by decide) ?_
  refine br_f (by decide) ?_
  refine br_f (by decide) ?_
  refine ⟨vp_in_iff.mpr (by decide), ?_⟩
  refine nm_r (e' := (0 : Int32)) (by decide) ?_
  refine br_f (by decide) ?_
  unfold wX_bodyFits_195
  refine br_t (by decide) ?_
  unfold wX_bodyFits_215
  refine br_t (by decide) ?_
  refine nm_r (e' := (-1 : Int32)) (by decide) ?_
  refine br_t (by decide) ?_
  exact h
theorem bz_va_24 (h : po1 1) : wpX_valid po1 (2, 2, 2, k4, k5, k6, k7, k8, k9, k10, k11, k12, k13, k14, k15, k16, k17, k18, bz_a1, bz_a2 2, bz_a3, bz_a4, bz_a5 y 4, bz_a6, bz_a7, bz_a8, bz_a9, bz_a10, bz_a11, bz_a12, a13, a14, a15, a16, a17, a18, a19, a20, a21) := by
  unfold wpX_valid
  refine br_f (by decide) ?_
  refine Exists.intro 3 ?_
  refine br_f (by decide) ?_
  refine ⟨vp_in_iff.mpr (by decide), ?_⟩
  refine br_f (by decide) ?_
  refine bz_bf0_24 ?_
  refine br_f (by decide) ?_
  refine nm_r (e' := (1 : Int32)) (by decide) ?_
  refine br_f (by decide) ?_
  refine ⟨vp_in_iff.mpr (by decide), ?_⟩
  refine br_f (by decide) ?_
  refine bz_bf1_24 ?_
  refine br_f (by decide) ?_
  refine nm_r (e' := (2 : Int32)) (by decide) ?_
  refine br_t (by decide) ?_
  exact h
theorem bz_p0 (h : po2 0 (1, k2, k3, 1, k5, k6, k7, k8, k9, k10, k11, k12, k13, k14, k15, k16, k17, k18, upd a1 0 (-1), upd a2 0 0, upd a3 0 (-1), a4, a5, a6, a7, a8, a9, a10, a11, a12, a13, a14, a15, a16, a17, a18, a19, a20, a21)) : wpX_procedure po2 (0, k2, k3, k4, k5, k6, k7, k8, k9, k10, k11, k12, k13, k14, k15, k16, k17, k18, a1, a2, a3, a4, a5, a6, a7, a8, a9, a10, a11, a12, a13, a14, a15, a16, a17, a18, a19, a20, a21) 0 0 := by
  unfold wpX_procedure
  refine br_t (by decide) (br_f (by decide) (br_f (by decide) (br_t (by decide) (br_t (by decide) (br_t (by decide) ?_)))))
  refine nm_r (e' := (1 : Int32)) (by decide) ?_
  refine br_t (by decide) ?_
  refine ⟨vp_in_iff.mpr (by decide), ?_⟩
  refine nm_r (e' := upd a1 0 (-1)) rfl ?_
  refine ⟨vp_in_iff.mpr (by decide), ?_⟩
  refine nm_r (e' := upd a2 0 0) rfl ?_
  refine ⟨vp_in_iff.mpr (by decide), ?_⟩
  exact nm_r (e' := upd a3 0 (-1)) rfl h
theorem bz_p1_1 (h : po2 1 (2, k2, k3, 1, k5, k6, k7, k8, k9, k10, k11, k12, k13, k14, k15, k16, k17, k18, upd a1 1 0, upd a2 1 1, upd a3 1 (-1), a4, a5, a6, a7, a8, a9, a10, a11, a12, a13, a14, a15, a16, a17, a18, a19, a20, a21)) : wpX_procedure po2 (1, k2, k3, k4, k5, k6, k7, k8, k9, k10, k11, k12, k13, k14, k15, k16, k17, k18, a1, a2, a3, a4, a5, a6, a7, a8, a9, a10, a11, a12, a13, a14, a15, a16, a17, a18, a19, a20, a21) 0 1 := by
  unfold wpX_procedure
  refine br_t (by decide) (br_f (by decide) (br_f (by decide) (br_t (by decide) (br_f (by decide) (br_f (by decide) (br_t (by decide) ?_))))))
  refine nm_r (e' := (2 : Int32)) (by decide) ?_
  refine br_f (by decide) ?_
  refine ⟨vp_in_iff.mpr (by decide), ?_⟩
  refine nm_r (e' := upd a1 1 0) rfl ?_
  refine ⟨vp_in_iff.mpr (by decide), ?_⟩
  refine nm_r (e' := upd a2 1 1) rfl ?_
  refine ⟨vp_in_iff.mpr (by decide), ?_⟩
  exact nm_r (e' := upd a3 1 (-1)) rfl h
theorem bz_p1_2 (h : po2 1 (2, k2, k3, 1, k5, k6, k7, k8, k9, k10, k11, k12, k13, k14, k15, k16, k17, k18, upd a1 1 0, upd a2 1 2, upd a3 1 (-1), a4, a5, a6, a7, a8, a9, a10, a11, a12, a13, a14, a15, a16, a17, a18, a19, a20, a21)) : wpX_procedure po2 (1, k2, k3, k4, k5, k6, k7, k8, k9, k10, k11, k12, k13, k14, k15, k16, k17, k18, a1, a2, a3, a4, a5, a6, a7, a8, a9, a10, a11, a12, a13, a14, a15, a16, a17, a18, a19, a20, a21) 0 2 := by
  unfold wpX_procedure
  refine br_t (by decide) (br_f (by decide) (br_f (by decide) (br_t (by decide) (br_f (by decide) (br_f (by decide) (br_t (by decide) ?_))))))
  refine nm_r (e' := (2 : Int32)) (by decide) ?_
  refine br_f (by decide) ?_
  refine ⟨vp_in_iff.mpr (by decide), ?_⟩
  refine nm_r (e' := upd a1 1 0) rfl ?_
  refine ⟨vp_in_iff.mpr (by decide), ?_⟩
  refine nm_r (e' := upd a2 1 2) rfl ?_
  refine ⟨vp_in_iff.mpr (by decide), ?_⟩
  exact nm_r (e' := upd a3 1 (-1)) rfl h
theorem bz_e0 {a : Int32} (h1 : ¬ a < -32768) (h2 : a ≤ 32767) (h : po2 0 (k1, 1, k3, k4, k5, k6, k7, k8, k9, k10, k11, k12, k13, k14, k15, k16, k17, k18, a1, a2, a3, upd a4 0 0, upd a5 0 a.toInt16.toInt32, upd a6 0 0, upd a7 0 1, a8, a9, a10, a11, a12, a13, a14, a15, a16, a17, a18, a19, a20, a21)) : wpX_express po2 (k1, 0, k3, k4, k5, k6, k7, k8, k9, k10, k11, k12, k13, k14, k15, k16, k17, k18, a1, a2, a3, a4, a5, a6, a7, a8, a9, a10, a11, a12, a13, a14, a15, a16, a17, a18, a19, a20, a21) 0 a 0 := by
  unfold wpX_express
  refine br_t (by decide) (br_f (by decide) (br_t (by decide) (br_t (by decide) (br_f h1 (br_t h2 ?_)))))
  refine br_f (by decide) (br_t (by decide) (br_t (by decide) (br_t (by decide) (br_t (by decide) ?_))))
  refine nm_r (e' := (1 : Int32)) (by decide) ?_
  refine ⟨vp_in_iff.mpr (by decide), ?_⟩
  refine nm_r (e' := upd a4 0 0) rfl ?_
  refine ⟨vp_in_iff.mpr (by decide), ?_⟩
  refine nm_r (e' := upd a5 0 a.toInt16.toInt32) rfl ?_
  refine ⟨vp_in_iff.mpr (by decide), ?_⟩
  refine nm_r (e' := upd a6 0 0) rfl ?_
  refine ⟨vp_in_iff.mpr (by decide), ?_⟩
  exact nm_r (e' := upd a7 0 1) rfl h
theorem bz_e1_2 (h : po2 1 (k1, 2, k3, k4, k5, k6, k7, k8, k9, k10, k11, k12, k13, k14, k15, k16, k17, k18, a1, a2, a3, upd a4 1 1, upd a5 1 2, upd a6 1 0, upd a7 1 1, a8, a9, a10, a11, a12, a13, a14, a15, a16, a17, a18, a19, a20, a21)) : wpX_express po2 (k1, 1, k3, k4, k5, k6, k7, k8, k9, k10, k11, k12, k13, k14, k15, k16, k17, k18, a1, a2, a3, a4, a5, a6, a7, a8, a9, a10, a11, a12, a13, a14, a15, a16, a17, a18, a19, a20, a21) 1 2 0 := by
  unfold wpX_express
  refine br_t (by decide) (br_f (by decide) (br_t (by decide) (br_f (by decide) ?_)))
  refine br_t (by decide) ?_
  unfold wpX_isVariable
  refine br_f (by decide) (br_f (by decide) ?_)
  refine br_f (by decide) (br_t (by decide) (br_t (by decide) (br_t (by decide) (br_t (by decide) ?_))))
  refine nm_r (e' := (2 : Int32)) (by decide) ?_
  refine ⟨vp_in_iff.mpr (by decide), ?_⟩
  refine nm_r (e' := upd a4 1 1) rfl ?_
  refine ⟨vp_in_iff.mpr (by decide), ?_⟩
  refine nm_r (e' := upd a5 1 2) rfl ?_
  refine ⟨vp_in_iff.mpr (by decide), ?_⟩
  refine nm_r (e' := upd a6 1 0) rfl ?_
  refine ⟨vp_in_iff.mpr (by decide), ?_⟩
  exact nm_r (e' := upd a7 1 1) rfl h
theorem bz_e1_3 (h : po2 1 (k1, 2, k3, k4, k5, k6, k7, k8, k9, k10, k11, k12, k13, k14, k15, k16, k17, k18, a1, a2, a3, upd a4 1 1, upd a5 1 3, upd a6 1 0, upd a7 1 1, a8, a9, a10, a11, a12, a13, a14, a15, a16, a17, a18, a19, a20, a21)) : wpX_express po2 (k1, 1, k3, k4, k5, k6, k7, k8, k9, k10, k11, k12, k13, k14, k15, k16, k17, k18, a1, a2, a3, a4, a5, a6, a7, a8, a9, a10, a11, a12, a13, a14, a15, a16, a17, a18, a19, a20, a21) 1 3 0 := by
  unfold wpX_express
  refine br_t (by decide) (br_f (by decide) (br_t (by decide) (br_f (by decide) ?_)))
  refine br_t (by decide) ?_
  unfold wpX_isVariable
  refine br_f (by decide) (br_f (by decide) ?_)
  refine br_f (by decide) (br_t (by decide) (br_t (by decide) (br_t (by decide) (br_t (by decide) ?_))))
  refine nm_r (e' := (2 : Int32)) (by decide) ?_
  refine ⟨vp_in_iff.mpr (by decide), ?_⟩
  refine nm_r (e' := upd a4 1 1) rfl ?_
  refine ⟨vp_in_iff.mpr (by decide), ?_⟩
  refine nm_r (e' := upd a5 1 3) rfl ?_
  refine ⟨vp_in_iff.mpr (by decide), ?_⟩
  refine nm_r (e' := upd a6 1 0) rfl ?_
  refine ⟨vp_in_iff.mpr (by decide), ?_⟩
  exact nm_r (e' := upd a7 1 1) rfl h
theorem bz_e1_4 (h : po2 1 (k1, 2, k3, k4, k5, k6, k7, k8, k9, k10, k11, k12, k13, k14, k15, k16, k17, k18, a1, a2, a3, upd a4 1 1, upd a5 1 4, upd a6 1 0, upd a7 1 1, a8, a9, a10, a11, a12, a13, a14, a15, a16, a17, a18, a19, a20, a21)) : wpX_express po2 (k1, 1, k3, k4, k5, k6, k7, k8, k9, k10, k11, k12, k13, k14, k15, k16, k17, k18, a1, a2, a3, a4, a5, a6, a7, a8, a9, a10, a11, a12, a13, a14, a15, a16, a17, a18, a19, a20, a21) 1 4 0 := by
  unfold wpX_express
  refine br_t (by decide) (br_f (by decide) (br_t (by decide) (br_f (by decide) ?_)))
  refine br_t (by decide) ?_
  unfold wpX_isVariable
  refine br_f (by decide) (br_f (by decide) ?_)
  refine br_f (by decide) (br_t (by decide) (br_t (by decide) (br_t (by decide) (br_t (by decide) ?_))))
  refine nm_r (e' := (2 : Int32)) (by decide) ?_
  refine ⟨vp_in_iff.mpr (by decide), ?_⟩
  refine nm_r (e' := upd a4 1 1) rfl ?_
  refine ⟨vp_in_iff.mpr (by decide), ?_⟩
  refine nm_r (e' := upd a5 1 4) rfl ?_
  refine ⟨vp_in_iff.mpr (by decide), ?_⟩
  refine nm_r (e' := upd a6 1 0) rfl ?_
  refine ⟨vp_in_iff.mpr (by decide), ?_⟩
  exact nm_r (e' := upd a7 1 1) rfl h
theorem bz_s0 (h : po2 0 (k1, 2, 1, k4, k5, k6, k7, k8, k9, k10, k11, k12, k13, k14, k15, k16, k17, k18, a1, a2, a3, a4, a5, a6, bz_a7, upd a8 0 0, upd a9 0 5, upd a10 0 0, upd a11 0 0, upd a12 0 2, a13, a14, a15, a16, a17, a18, a19, a20, a21)) : wpX_state po2 (k1, 2, 0, k4, k5, k6, k7, k8, k9, k10, k11, k12, k13, k14, k15, k16, k17, k18, a1, a2, a3, a4, a5, a6, bz_a7, a8, a9, a10, a11, a12, a13, a14, a15, a16, a17, a18, a19, a20, a21) 0 5 0 0 := by
  unfold wpX_state
  refine br_t (by decide) (br_f (by decide) (br_f (by decide) ?_))
  unfold wpX_operandsFit
  refine br_f (by decide) (br_t (by decide) ?_)
  unfold wpX_isVariable
  refine br_f (by decide) (br_f (by decide) (br_f (by decide) ?_))
  unfold wpX_isExpression
  refine br_f (by decide) (br_f (by decide) (br_f (by decide) ?_))
  refine br_f (by decide) ?_
  unfold wpX_weightOf
  refine br_f (by decide) (br_t (by decide) ⟨vp_in_iff.mpr (by decide), ?_⟩)
  refine br_t (by decide) ?_
  refine nm_r (e' := (1 : Int32)) (by decide) ?_
  refine ⟨vp_in_iff.mpr (by decide), ?_⟩
  refine nm_r (e' := upd a8 0 0) rfl ?_
  refine ⟨vp_in_iff.mpr (by decide), ?_⟩
  refine nm_r (e' := upd a9 0 5) rfl ?_
  refine ⟨vp_in_iff.mpr (by decide), ?_⟩
  refine nm_r (e' := upd a10 0 0) rfl ?_
  refine ⟨vp_in_iff.mpr (by decide), ?_⟩
  refine nm_r (e' := upd a11 0 0) rfl ?_
  refine ⟨vp_in_iff.mpr (by decide), ?_⟩
  exact nm_r (e' := upd a12 0 2) rfl h
theorem bz_s1_1 (h : po2 1 (2, 2, 2, k4, k5, k6, k7, k8, k9, k10, k11, k12, k13, k14, k15, k16, k17, k18, a1, bz_a2 1, a3, a4, a5, a6, bz_a7, upd a8 1 5, upd a9 1 1, upd a10 1 1, upd a11 1 99, upd a12 1 2, a13, a14, a15, a16, a17, a18, a19, a20, a21)) : wpX_state po2 (2, 2, 1, k4, k5, k6, k7, k8, k9, k10, k11, k12, k13, k14, k15, k16, k17, k18, a1, bz_a2 1, a3, a4, a5, a6, bz_a7, a8, a9, a10, a11, a12, a13, a14, a15, a16, a17, a18, a19, a20, a21) 5 1 1 99 := by
  unfold wpX_state
  refine br_t (by decide) (br_f (by decide) (br_f (by decide) ?_))
  unfold wpX_operandsFit
  refine br_f (by decide) (br_f (by decide) (br_f (by decide) (br_t (by decide) ?_)))
  unfold wpX_isProcedure
  refine br_f (by decide) (br_f (by decide) (br_f (by decide) ?_))
  refine bz_mode0 1 1 (by decide) (by decide) rfl (by decide) ?_
  refine br_f (by decide) ?_
  unfold wpX_isExpression
  refine br_f (by decide) (br_f (by decide) (br_f (by decide) ?_))
  unfold wX_operandsFit_91
  refine bz_mode1 1 0 (by decide) (by decide) (by decide) (by decide) ?_
  refine br_t (by decide) ?_
  refine br_f (by decide) ?_
  unfold wpX_weightOf
  refine br_f (by decide) (br_f (by decide) (br_f (by decide) (br_t (by decide) ?_)))
  refine bz_mode0 1 1 (by decide) (by decide) rfl (by decide) ?_
  refine br_f (by decide) ⟨vp_in_iff.mpr (by decide), ?_⟩
  unfold wX_weightOf_67
  refine bz_mode1 1 0 (by decide) (by decide) (by decide) (by decide) ?_
  refine br_t (by decide) ?_
  refine br_t (by decide) ?_
  refine nm_r (e' := (2 : Int32)) (by decide) ?_
  refine ⟨vp_in_iff.mpr (by decide), ?_⟩
  refine nm_r (e' := upd a8 1 5) rfl ?_
  refine ⟨vp_in_iff.mpr (by decide), ?_⟩
  refine nm_r (e' := upd a9 1 1) rfl ?_
  refine ⟨vp_in_iff.mpr (by decide), ?_⟩
  refine nm_r (e' := upd a10 1 1) rfl ?_
  refine ⟨vp_in_iff.mpr (by decide), ?_⟩
  refine nm_r (e' := upd a11 1 99) rfl ?_
  refine ⟨vp_in_iff.mpr (by decide), ?_⟩
  exact nm_r (e' := upd a12 1 2) rfl h
theorem bz_s1_2 (h : po2 1 (2, 2, 2, k4, k5, k6, k7, k8, k9, k10, k11, k12, k13, k14, k15, k16, k17, k18, a1, bz_a2 2, a3, a4, a5, a6, bz_a7, upd a8 1 5, upd a9 1 1, upd a10 1 1, upd a11 1 99, upd a12 1 2, a13, a14, a15, a16, a17, a18, a19, a20, a21)) : wpX_state po2 (2, 2, 1, k4, k5, k6, k7, k8, k9, k10, k11, k12, k13, k14, k15, k16, k17, k18, a1, bz_a2 2, a3, a4, a5, a6, bz_a7, a8, a9, a10, a11, a12, a13, a14, a15, a16, a17, a18, a19, a20, a21) 5 1 1 99 := by
  unfold wpX_state
  refine br_t (by decide) (br_f (by decide) (br_f (by decide) ?_))
  unfold wpX_operandsFit
  refine br_f (by decide) (br_f (by decide) (br_f (by decide) (br_t (by decide) ?_)))
  unfold wpX_isProcedure
  refine br_f (by decide) (br_f (by decide) (br_f (by decide) ?_))
  refine bz_mode0 1 2 (by decide) (by decide) rfl (by decide) ?_
  refine br_f (by decide) ?_
  unfold wpX_isExpression
  refine br_f (by decide) (br_f (by decide) (br_f (by decide) ?_))
  unfold wX_operandsFit_91
  refine bz_mode1 1 0 (by decide) (by decide) (by decide) (by decide) ?_
  refine br_t (by decide) ?_
  refine br_f (by decide) ?_
  unfold wpX_weightOf
  refine br_f (by decide) (br_f (by decide) (br_f (by decide) (br_t (by decide) ?_)))
  refine bz_mode0 1 2 (by decide) (by decide) rfl (by decide) ?_
  refine br_f (by decide) ⟨vp_in_iff.mpr (by decide), ?_⟩
  unfold wX_weightOf_67
  refine bz_mode1 1 0 (by decide) (by decide) (by decide) (by decide) ?_
  refine br_t (by decide) ?_
  refine br_t (by decide) ?_
  refine nm_r (e' := (2 : Int32)) (by decide) ?_
  refine ⟨vp_in_iff.mpr (by decide), ?_⟩
  refine nm_r (e' := upd a8 1 5) rfl ?_
  refine ⟨vp_in_iff.mpr (by decide), ?_⟩
  refine nm_r (e' := upd a9 1 1) rfl ?_
  refine ⟨vp_in_iff.mpr (by decide), ?_⟩
  refine nm_r (e' := upd a10 1 1) rfl ?_
  refine ⟨vp_in_iff.mpr (by decide), ?_⟩
  refine nm_r (e' := upd a11 1 99) rfl ?_
  refine ⟨vp_in_iff.mpr (by decide), ?_⟩
  exact nm_r (e' := upd a12 1 2) rfl h
theorem bz_b1 (h : po2 1 (2, k2, 2, 1, k5, k6, k7, k8, k9, k10, k11, k12, k13, k14, k15, k16, k17, k18, a1, a2, upd a3 1 0, a4, a5, a6, a7, a8, a9, a10, a11, a12, a13, a14, a15, a16, a17, a18, a19, a20, a21)) : wpX_body po2 (2, k2, 2, k4, k5, k6, k7, k8, k9, k10, k11, k12, k13, k14, k15, k16, k17, k18, a1, a2, a3, a4, a5, a6, a7, a8, a9, a10, a11, a12, a13, a14, a15, a16, a17, a18, a19, a20, a21) 1 0 := by
  unfold wpX_body wpX_isProcedure
  refine br_f (by decide) (br_f (by decide) (br_f (by decide) ?_))
  unfold wpX_isState
  refine br_f (by decide) (br_f (by decide) (br_f (by decide) ?_))
  refine ⟨vp_in_iff.mpr (by decide), ?_⟩
  exact nm_r (e' := upd a3 1 0) rfl h
theorem bz_b0 (h : po2 1 (2, k2, 2, 1, k5, k6, k7, k8, k9, k10, k11, k12, k13, k14, k15, k16, k17, k18, a1, a2, upd a3 0 1, a4, a5, a6, a7, a8, a9, a10, a11, a12, a13, a14, a15, a16, a17, a18, a19, a20, a21)) : wpX_body po2 (2, k2, 2, k4, k5, k6, k7, k8, k9, k10, k11, k12, k13, k14, k15, k16, k17, k18, a1, a2, a3, a4, a5, a6, a7, a8, a9, a10, a11, a12, a13, a14, a15, a16, a17, a18, a19, a20, a21) 0 1 := by
  unfold wpX_body wpX_isProcedure
  refine br_f (by decide) (br_f (by decide) (br_f (by decide) ?_))
  unfold wpX_isState
  refine br_f (by decide) (br_f (by decide) (br_f (by decide) ?_))
  refine ⟨vp_in_iff.mpr (by decide), ?_⟩
  exact nm_r (e' := upd a3 0 1) rfl h
end
end
section
theorem bz_num (x : Int32) : ∃ q : Nat, q < 65536 ∧ (nI q).toInt16.toInt32 = x.toInt16.toInt32 ∧ (x.toInt16.toInt32.toInt16.toInt32 &&& 255).toInt8.toInt32 = bz_b (q % 256) ∧ ((x.toInt16.toInt32.toInt16.toInt32 >>> ((8 : Int32) &&& 31)) &&& 255).toInt8.toInt32 = bz_b (q / 256) ∧ ¬ x.toInt16.toInt32 < -32768 ∧ x.toInt16.toInt32 ≤ 32767 := by
  have e : x.toInt16.toInt32.toInt16.toInt32 = x.toInt16.toInt32 := by simp
  rw [e]
  have hr := lg_i2s_range x
  generalize x.toInt16.toInt32 = a at hr ⊢
  have hb : a.toInt = if 2 * a.toBitVec.toNat < 2 ^ 32 then (a.toBitVec.toNat : Int) else (a.toBitVec.toNat : Int) - (2 ^ 32 : Nat) := BitVec.toInt_eq_toNat_cond a.toBitVec
  have hlt := a.toBitVec.isLt
  have h1 : (-32768 : Int32).toInt = -32768 := by decide
  have h2 : (32767 : Int32).toInt = 32767 := by decide
  refine ⟨a.toBitVec.toNat % 65536, Nat.mod_lt _ (by omega), ?_, ?_, ?_, ?_, ?_⟩
  · apply Int32.toInt_inj.mp
    rw [lg_i2s_toInt, nI_toInt (by omega), Int.bmod_def]
    split at hb <;> split <;> omega
  · rw [pk_and a 8 (by decide)]
    unfold bz_b
    rw [show a.toBitVec.toNat % 65536 % 256 = a.toBitVec.toNat % 2 ^ 8 by omega]
  · have hs := pk_shr a ((8 : Int32) &&& 31) 8 (by decide)
    rw [pk_and _ 8 (by decide)]
    generalize a >>> ((8 : Int32) &&& 31) = z at hs ⊢
    have hz : z.toInt = if 2 * z.toBitVec.toNat < 2 ^ 32 then (z.toBitVec.toNat : Int) else (z.toBitVec.toNat : Int) - (2 ^ 32 : Nat) := BitVec.toInt_eq_toNat_cond z.toBitVec
    have hzt := z.toBitVec.isLt
    rw [Int.shiftRight_eq_div_pow] at hs
    unfold bz_b
    rw [show a.toBitVec.toNat % 65536 / 256 = z.toBitVec.toNat % 2 ^ 8 by split at hb <;> split at hz <;> omega]
  · rw [Int32.lt_iff_toInt_lt, h1]
    omega
  · rw [Int32.le_iff_toInt_le, h2]
    omega
end
section
theorem bz_gz (n j : Nat) : (List.replicate n 0).getD j 0 = 0 := by
  simp only [List.getD_eq_getElem?_getD, List.getElem?_replicate]
  split <;> rfl
theorem bz_mem0 : (fun _ => (0 : Int32)) = bz_mem 0 0 [0, 0, 0, 0, 0, 0, 0, 0, 0, 0, 0, 0, 0, 0, 0, 0, 0, 0, 0, 0, 0, 0, 0, 0, 0, 0, 0, 0, 0, 0, 0, 0] [0, 0, 0, 0, 0, 0, 0, 0, 0, 0, 0, 0, 0, 0, 0, 0, 0, 0] := by
  have e1 : ([0, 0, 0, 0, 0, 0, 0, 0, 0, 0, 0, 0, 0, 0, 0, 0, 0, 0, 0, 0, 0, 0, 0, 0, 0, 0, 0, 0, 0, 0, 0, 0] : List Nat) = List.replicate 32 0 := by decide
  have e2 : ([0, 0, 0, 0, 0, 0, 0, 0, 0, 0, 0, 0, 0, 0, 0, 0, 0, 0] : List Nat) = List.replicate 18 0 := by decide
  have b0 : bz_b 0 = 0 := by decide
  have h0 : bz_h 0 = 0 := by decide
  rw [e1, e2]
  funext j
  unfold bz_mem
  rw [bz_gz, bz_gz, bz_gz, b0, h0]
  simp
theorem bz_rg0 : (fun _ => (0 : Int32)) = bz_rg [0, 0, 0, 0, 0, 0, 0, 0] := by
  have e1 : ([0, 0, 0, 0, 0, 0, 0, 0] : List Nat) = List.replicate 8 0 := by decide
  rw [e1]
  funext j
  unfold bz_rg
  rw [bz_gz]
  rfl
section
variable {po2 : Int32 → St2 → Prop} {k1 k2 k3 k4 k5 k6 k7 k8 k9 k10 k11 k12 k13 k14 k15 k16 k17 k18 : Int32} {a1 a2 a3 a4 a5 a6 a7 a8 a9 a10 a11 a12 a13 a14 a15 a16 a17 a18 a19 a20 a21 : Nat → Int32} {q : Nat} {y : Int32}
theorem bz_go_12 (hq : q < 65536) (h : ∀ (e10 e11 e12 e13 e14 e15 e16 e17 : Int32) (m18 m19 : Nat → Int32), po2 0 (k1, k2, k3, k4, k5, k6, k7, k8, k9, e10, e11, e12, e13, e14, e15, e16, e17, 0, a1, a2, a3, a4, a5, a6, a7, a8, a9, a10, a11, a12, a13, a14, a15, a16, a17, m18, m19, upd (upd (upd a20 0 (nI 0).toInt16.toInt32) 1 (nI 0).toInt16.toInt32) 2 (nI 0).toInt16.toInt32, a21)) : wX_run_21 po2 k1 k2 k3 k4 k5 k6 k7 k8 k9 0 0 0 0 0 0 0 0 0 a1 a2 a3 a4 a5 a6 a7 a8 a9 a10 a11 a12 a13 a14 a15 a16 a17 (bz_mem 0 0 (bz_cd0 254 q) [0, 0, 0, 0, 0, 0, 0, 0, 0, 0, 0, 0, 0, 0, 0, 0, 0, 0]) (bz_rg [0, 0, 0, 0, 0, 0, 0, 0]) a20 a21 := by
  unfold wX_run_21
  refine bz_setWord (M := bz_mem 0 0 (bz_cd0 254 q) [0, 0, 0, 0, 0, 0, 0, 0, 0, 0, 0, 0, 0, 0, 0, 0, 0, 0]) 2 rfl (by decide) (bz_set_st 0) ?_
  refine bz_setWord (M := bz_mem 0 0 (bz_cd0 254 q) [0, 0, 0, 0, 0, 0, 0, 0, 0, 0, 0, 0, 0, 0, 0, 0, 0, 0]) 4 rfl (by decide) (bz_set_ac 0) ?_
  refine Exists.intro 4 ?_
  refine br_f (by decide) ?_
  refine bz_setWord (M := bz_mem 0 0 (bz_cd0 254 q) [0, 0, 0, 0, 0, 0, 0, 0, 0, 0, 0, 0, 0, 0, 0, 0, 0, 0]) 4086 (by decide) (by decide) (bz_set_H (k := 4) (by decide) (by decide) (by decide) 0) ?_
  refine nm_r (e' := (1 : Int32)) (by decide) ?_
  refine br_f (by decide) ?_
  refine bz_setWord (M := bz_mem 0 0 (bz_cd0 254 q) [0, 0, 0, 0, 0, 0, 0, 0, 0, 0, 0, 0, 0, 0, 0, 0, 0, 0]) 4084 (by decide) (by decide) (bz_set_H (k := 5) (by decide) (by decide) (by decide) 0) ?_
  refine nm_r (e' := (2 : Int32)) (by decide) ?_
  refine br_f (by decide) ?_
  refine bz_setWord (M := bz_mem 0 0 (bz_cd0 254 q) [0, 0, 0, 0, 0, 0, 0, 0, 0, 0, 0, 0, 0, 0, 0, 0, 0, 0]) 4082 (by decide) (by decide) (bz_set_H (k := 6) (by decide) (by decide) (by decide) 0) ?_
  refine nm_r (e' := (3 : Int32)) (by decide) ?_
  refine br_t (by decide) ?_
  refine nm_r (e' := bz_rg [0, 0, 0, 0, 4094, 0, 0, 0]) (bz_set_rg (R := [0, 0, 0, 0, 0, 0, 0, 0]) (i := 4) (by decide) 4094) ?_
  refine nm_r (e' := bz_rg [0, 0, 0, 0, 4094, 0, 0, 0]) (bz_set_rg (R := [0, 0, 0, 0, 4094, 0, 0, 0]) (i := 5) (by decide) 0) ?_
  refine Exists.intro (1 + 48) ?_
  refine bz_r02 hq ?_
  refine br_f (by decide) ?_
  refine bz_wordAt 2 2 rfl (by decide) (bz_wst (by decide)) ?_
  refine Exists.intro 4 ?_
  refine br_f (by decide) ?_
  refine bz_wordAt 4086 0 (by decide) (by decide) (bz_wH (k := 4) (by decide) rfl (by decide)) ?_
  refine ⟨vp_in_iff.mpr (by decide), ?_⟩
  refine nm_r (e' := (upd a20 0 (nI 0).toInt16.toInt32)) rfl ?_
  refine nm_r (e' := (1 : Int32)) (by decide) ?_
  refine br_f (by decide) ?_
  refine bz_wordAt 4084 0 (by decide) (by decide) (bz_wH (k := 5) (by decide) rfl (by decide)) ?_
  refine ⟨vp_in_iff.mpr (by decide), ?_⟩
  refine nm_r (e' := (upd (upd a20 0 (nI 0).toInt16.toInt32) 1 (nI 0).toInt16.toInt32)) rfl ?_
  refine nm_r (e' := (2 : Int32)) (by decide) ?_
  refine br_f (by decide) ?_
  refine bz_wordAt 4082 0 (by decide) (by decide) (bz_wH (k := 6) (by decide) rfl (by decide)) ?_
  refine ⟨vp_in_iff.mpr (by decide), ?_⟩
  refine nm_r (e' := (upd (upd (upd a20 0 (nI 0).toInt16.toInt32) 1 (nI 0).toInt16.toInt32) 2 (nI 0).toInt16.toInt32)) rfl ?_
  refine nm_r (e' := (3 : Int32)) (by decide) ?_
  refine br_t (by decide) ?_
  exact h _ _ _ _ _ _ _ _ _ _
theorem bz_wr_12 (hy1 : (y &&& 255).toInt8.toInt32 = bz_b (q % 256)) (hy2 : ((y >>> ((8 : Int32) &&& 31)) &&& 255).toInt8.toInt32 = bz_b (q / 256)) (hq : q < 65536) (h18 : a18 = bz_mem 0 0 [0, 0, 0, 0, 0, 0, 0, 0, 0, 0, 0, 0, 0, 0, 0, 0, 0, 0, 0, 0, 0, 0, 0, 0, 0, 0, 0, 0, 0, 0, 0, 0] [0, 0, 0, 0, 0, 0, 0, 0, 0, 0, 0, 0, 0, 0, 0, 0, 0, 0]) (h19 : a19 = bz_rg [0, 0, 0, 0, 0, 0, 0, 0]) (h : ∀ (e5 e6 e7 e8 e9 : Int32) (m13 m14 m16 m17 : Nat → Int32) (e10 e11 e12 e13 e14 e15 e16 e17 : Int32) (m18 m19 : Nat → Int32), po2 0 (2, 2, 2, 0, e5, e6, e7, e8, e9, e10, e11, e12, e13, e14, e15, e16, e17, 0, bz_a1, bz_a2 1, bz_a3, bz_a4, bz_a5 y 2, bz_a6, bz_a7, bz_a8, bz_a9, bz_a10, bz_a11, bz_a12, m13, m14, a15, m16, m17, m18, m19, upd (upd (upd a20 0 (nI 0).toInt16.toInt32) 1 (nI 0).toInt16.toInt32) 2 (nI 0).toInt16.toInt32, a21)) : wpX_run po2 (2, 2, 2, 1, k5, k6, k7, k8, k9, 0, 0, 0, 0, 0, 0, 0, 0, 0, bz_a1, bz_a2 1, bz_a3, bz_a4, bz_a5 y 2, bz_a6, bz_a7, bz_a8, bz_a9, bz_a10, bz_a11, bz_a12, a13, a14, a15, a16, a17, a18, a19, a20, a21) := by
  subst h18 h19
  unfold wpX_run
  refine bz_va_12 ?_
  refine br_f (by decide) ?_
  refine br_f (by decide) ?_
  refine bz_co_12 hy1 hy2 (fun e5 e6 e7 e8 e9 m13 m14 m16 m17 => ?_)
  exact bz_go_12 hq (h _ _ _ _ _ _ _ _ _)
theorem bz_go_13 (hq : q < 65536) (h : ∀ (e10 e11 e12 e13 e14 e15 e16 e17 : Int32) (m18 m19 : Nat → Int32), po2 0 (k1, k2, k3, k4, k5, k6, k7, k8, k9, e10, e11, e12, e13, e14, e15, e16, e17, 0, a1, a2, a3, a4, a5, a6, a7, a8, a9, a10, a11, a12, a13, a14, a15, a16, a17, m18, m19, upd (upd (upd a20 0 (nI 0).toInt16.toInt32) 1 (nI 0).toInt16.toInt32) 2 (nI 0).toInt16.toInt32, a21)) : wX_run_21 po2 k1 k2 k3 k4 k5 k6 k7 k8 k9 0 0 0 0 0 0 0 0 0 a1 a2 a3 a4 a5 a6 a7 a8 a9 a10 a11 a12 a13 a14 a15 a16 a17 (bz_mem 0 0 (bz_cd0 252 q) [0, 0, 0, 0, 0, 0, 0, 0, 0, 0, 0, 0, 0, 0, 0, 0, 0, 0]) (bz_rg [0, 0, 0, 0, 0, 0, 0, 0]) a20 a21 := by
  unfold wX_run_21
  refine bz_setWord (M := bz_mem 0 0 (bz_cd0 252 q) [0, 0, 0, 0, 0, 0, 0, 0, 0, 0, 0, 0, 0, 0, 0, 0, 0, 0]) 2 rfl (by decide) (bz_set_st 0) ?_
  refine bz_setWord (M := bz_mem 0 0 (bz_cd0 252 q) [0, 0, 0, 0, 0, 0, 0, 0, 0, 0, 0, 0, 0, 0, 0, 0, 0, 0]) 4 rfl (by decide) (bz_set_ac 0) ?_
  refine Exists.intro 4 ?_
  refine br_f (by decide) ?_
  refine bz_setWord (M := bz_mem 0 0 (bz_cd0 252 q) [0, 0, 0, 0, 0, 0, 0, 0, 0, 0, 0, 0, 0, 0, 0, 0, 0, 0]) 4086 (by decide) (by decide) (bz_set_H (k := 4) (by decide) (by decide) (by decide) 0) ?_
  refine nm_r (e' := (1 : Int32)) (by decide) ?_
  refine br_f (by decide) ?_
  refine bz_setWord (M := bz_mem 0 0 (bz_cd0 252 q) [0, 0, 0, 0, 0, 0, 0, 0, 0, 0, 0, 0, 0, 0, 0, 0, 0, 0]) 4084 (by decide) (by decide) (bz_set_H (k := 5) (by decide) (by decide) (by decide) 0) ?_
  refine nm_r (e' := (2 : Int32)) (by decide) ?_
  refine br_f (by decide) ?_
  refine bz_setWord (M := bz_mem 0 0 (bz_cd0 252 q) [0, 0, 0, 0, 0, 0, 0, 0, 0, 0, 0, 0, 0, 0, 0, 0, 0, 0]) 4082 (by decide) (by decide) (bz_set_H (k := 6) (by decide) (by decide) (by decide) 0) ?_
  refine nm_r (e' := (3 : Int32)) (by decide) ?_
  refine br_t (by decide) ?_
  refine nm_r (e' := bz_rg [0, 0, 0, 0, 4094, 0, 0, 0]) (bz_set_rg (R := [0, 0, 0, 0, 0, 0, 0, 0]) (i := 4) (by decide) 4094) ?_
  refine nm_r (e' := bz_rg [0, 0, 0, 0, 4094, 0, 0, 0]) (bz_set_rg (R := [0, 0, 0, 0, 4094, 0, 0, 0]) (i := 5) (by decide) 0) ?_
  refine Exists.intro (1 + 48) ?_
  refine bz_r03 hq ?_
  refine br_f (by decide) ?_
  refine bz_wordAt 2 2 rfl (by decide) (bz_wst (by decide)) ?_
  refine Exists.intro 4 ?_
  refine br_f (by decide) ?_
  refine bz_wordAt 4086 0 (by decide) (by decide) (bz_wH (k := 4) (by decide) rfl (by decide)) ?_
  refine ⟨vp_in_iff.mpr (by decide), ?_⟩
  refine nm_r (e' := (upd a20 0 (nI 0).toInt16.toInt32)) rfl ?_
  refine nm_r (e' := (1 : Int32)) (by decide) ?_
  refine br_f (by decide) ?_
  refine bz_wordAt 4084 0 (by decide) (by decide) (bz_wH (k := 5) (by decide) rfl (by decide)) ?_
  refine ⟨vp_in_iff.mpr (by decide), ?_⟩
  refine nm_r (e' := (upd (upd a20 0 (nI 0).toInt16.toInt32) 1 (nI 0).toInt16.toInt32)) rfl ?_
  refine nm_r (e' := (2 : Int32)) (by decide) ?_
  refine br_f (by decide) ?_
  refine bz_wordAt 4082 0 (by decide) (by decide) (bz_wH (k := 6) (by decide) rfl (by decide)) ?_
  refine ⟨vp_in_iff.mpr (by decide), ?_⟩
  refine nm_r (e' := (upd (upd (upd a20 0 (nI 0).toInt16.toInt32) 1 (nI 0).toInt16.toInt32) 2 (nI 0).toInt16.toInt32)) rfl ?_
  refine nm_r (e' := (3 : Int32)) (by decide) ?_
  refine br_t (by decide) ?_
  exact h _ _ _ _ _ _ _ _ _ _
theorem bz_wr_13 (hy1 : (y &&& 255).toInt8.toInt32 = bz_b (q % 256)) (hy2 : ((y >>> ((8 : Int32) &&& 31)) &&& 255).toInt8.toInt32 = bz_b (q / 256)) (hq : q < 65536) (h18 : a18 = bz_mem 0 0 [0, 0, 0, 0, 0, 0, 0, 0, 0, 0, 0, 0, 0, 0, 0, 0, 0, 0, 0, 0, 0, 0, 0, 0, 0, 0, 0, 0, 0, 0, 0, 0] [0, 0, 0, 0, 0, 0, 0, 0, 0, 0, 0, 0, 0, 0, 0, 0, 0, 0]) (h19 : a19 = bz_rg [0, 0, 0, 0, 0, 0, 0, 0]) (h : ∀ (e5 e6 e7 e8 e9 : Int32) (m13 m14 m16 m17 : Nat → Int32) (e10 e11 e12 e13 e14 e15 e16 e17 : Int32) (m18 m19 : Nat → Int32), po2 0 (2, 2, 2, 0, e5, e6, e7, e8, e9, e10, e11, e12, e13, e14, e15, e16, e17, 0, bz_a1, bz_a2 1, bz_a3, bz_a4, bz_a5 y 3, bz_a6, bz_a7, bz_a8, bz_a9, bz_a10, bz_a11, bz_a12, m13, m14, a15, m16, m17, m18, m19, upd (upd (upd a20 0 (nI 0).toInt16.toInt32) 1 (nI 0).toInt16.toInt32) 2 (nI 0).toInt16.toInt32, a21)) : wpX_run po2 (2, 2, 2, 1, k5, k6, k7, k8, k9, 0, 0, 0, 0, 0, 0, 0, 0, 0, bz_a1, bz_a2 1, bz_a3, bz_a4, bz_a5 y 3, bz_a6, bz_a7, bz_a8, bz_a9, bz_a10, bz_a11, bz_a12, a13, a14, a15, a16, a17, a18, a19, a20, a21) := by
  subst h18 h19
  unfold wpX_run
  refine bz_va_13 ?_
  refine br_f (by decide) ?_
  refine br_f (by decide) ?_
  refine bz_co_13 hy1 hy2 (fun e5 e6 e7 e8 e9 m13 m14 m16 m17 => ?_)
  exact bz_go_13 hq (h _ _ _ _ _ _ _ _ _)
theorem bz_go_14 (hq : q < 65536) (h : ∀ (e10 e11 e12 e13 e14 e15 e16 e17 : Int32) (m18 m19 : Nat → Int32), po2 0 (k1, k2, k3, k4, k5, k6, k7, k8, k9, e10, e11, e12, e13, e14, e15, e16, e17, 0, a1, a2, a3, a4, a5, a6, a7, a8, a9, a10, a11, a12, a13, a14, a15, a16, a17, m18, m19, upd (upd (upd a20 0 (nI 0).toInt16.toInt32) 1 (nI 0).toInt16.toInt32) 2 (nI 0).toInt16.toInt32, a21)) : wX_run_21 po2 k1 k2 k3 k4 k5 k6 k7 k8 k9 0 0 0 0 0 0 0 0 0 a1 a2 a3 a4 a5 a6 a7 a8 a9 a10 a11 a12 a13 a14 a15 a16 a17 (bz_mem 0 0 (bz_cd0 250 q) [0, 0, 0, 0, 0, 0, 0, 0, 0, 0, 0, 0, 0, 0, 0, 0, 0, 0]) (bz_rg [0, 0, 0, 0, 0, 0, 0, 0]) a20 a21 := by
  unfold wX_run_21
  refine bz_setWord (M := bz_mem 0 0 (bz_cd0 250 q) [0, 0, 0, 0, 0, 0, 0, 0, 0, 0, 0, 0, 0, 0, 0, 0, 0, 0]) 2 rfl (by decide) (bz_set_st 0) ?_
  refine bz_setWord (M := bz_mem 0 0 (bz_cd0 250 q) [0, 0, 0, 0, 0, 0, 0, 0, 0, 0, 0, 0, 0, 0, 0, 0, 0, 0]) 4 rfl (by decide) (bz_set_ac 0) ?_
  refine Exists.intro 4 ?_
  refine br_f (by decide) ?_
  refine bz_setWord (M := bz_mem 0 0 (bz_cd0 250 q) [0, 0, 0, 0, 0, 0, 0, 0, 0, 0, 0, 0, 0, 0, 0, 0, 0, 0]) 4086 (by decide) (by decide) (bz_set_H (k := 4) (by decide) (by decide) (by decide) 0) ?_
  refine nm_r (e' := (1 : Int32)) (by decide) ?_
  refine br_f (by decide) ?_
  refine bz_setWord (M := bz_mem 0 0 (bz_cd0 250 q) [0, 0, 0, 0, 0, 0, 0, 0, 0, 0, 0, 0, 0, 0, 0, 0, 0, 0]) 4084 (by decide) (by decide) (bz_set_H (k := 5) (by decide) (by decide) (by decide) 0) ?_
  refine nm_r (e' := (2 : Int32)) (by decide) ?_
  refine br_f (by decide) ?_
  refine bz_setWord (M := bz_mem 0 0 (bz_cd0 250 q) [0, 0, 0, 0, 0, 0, 0, 0, 0, 0, 0, 0, 0, 0, 0, 0, 0, 0]) 4082 (by decide) (by decide) (bz_set_H (k := 6) (by decide) (by decide) (by decide) 0) ?_
  refine nm_r (e' := (3 : Int32)) (by decide) ?_
  refine br_t (by decide) ?_
  refine nm_r (e' := bz_rg [0, 0, 0, 0, 4094, 0, 0, 0]) (bz_set_rg (R := [0, 0, 0, 0, 0, 0, 0, 0]) (i := 4) (by decide) 4094) ?_
  refine nm_r (e' := bz_rg [0, 0, 0, 0, 4094, 0, 0, 0]) (bz_set_rg (R := [0, 0, 0, 0, 4094, 0, 0, 0]) (i := 5) (by decide) 0) ?_
  refine Exists.intro (1 + 48) ?_
  refine bz_r04 hq ?_
  refine br_f (by decide) ?_
  refine bz_wordAt 2 2 rfl (by decide) (bz_wst (by decide)) ?_
  refine Exists.intro 4 ?_
  refine br_f (by decide) ?_
  refine bz_wordAt 4086 0 (by decide) (by decide) (bz_wH (k := 4) (by decide) rfl (by decide)) ?_
  refine ⟨vp_in_iff.mpr (by decide), ?_⟩
  refine nm_r (e' := (upd a20 0 (nI 0).toInt16.toInt32)) rfl ?_
  refine nm_r (e' := (1 : Int32)) (by decide) ?_
  refine br_f (by decide) ?_
  refine bz_wordAt 4084 0 (by decide) (by decide) (bz_wH (k := 5) (by decide) rfl (by decide)) ?_
  refine ⟨vp_in_iff.mpr (by decide), ?_⟩
  refine nm_r (e' := (upd (upd a20 0 (nI 0).toInt16.toInt32) 1 (nI 0).toInt16.toInt32)) rfl ?_
  refine nm_r (e' := (2 : Int32)) (by decide) ?_
  refine br_f (by decide) ?_
  refine bz_wordAt 4082 0 (by decide) (by decide) (bz_wH (k := 6) (by decide) rfl (by decide)) ?_
  refine ⟨vp_in_iff.mpr (by decide), ?_⟩
  refine nm_r (e' := (upd (upd (upd a20 0 (nI 0).toInt16.toInt32) 1 (nI 0).toInt16.toInt32) 2 (nI 0).toInt16.toInt32)) rfl ?_
  refine nm_r (e' := (3 : Int32)) (by decide) ?_
  refine br_t (by decide) ?_
  exact h _ _ _ _ _ _ _ _ _ _
theorem bz_wr_14 (hy1 : (y &&& 255).toInt8.toInt32 = bz_b (q % 256)) (hy2 : ((y >>> ((8 : Int32) &&& 31)) &&& 255).toInt8.toInt32 = bz_b (q / 256)) (hq : q < 65536) (h18 : a18 = bz_mem 0 0 [0, 0, 0, 0, 0, 0, 0, 0, 0, 0, 0, 0, 0, 0, 0, 0, 0, 0, 0, 0, 0, 0, 0, 0, 0, 0, 0, 0, 0, 0, 0, 0] [0, 0, 0, 0, 0, 0, 0, 0, 0, 0, 0, 0, 0, 0, 0, 0, 0, 0]) (h19 : a19 = bz_rg [0, 0, 0, 0, 0, 0, 0, 0]) (h : ∀ (e5 e6 e7 e8 e9 : Int32) (m13 m14 m16 m17 : Nat → Int32) (e10 e11 e12 e13 e14 e15 e16 e17 : Int32) (m18 m19 : Nat → Int32), po2 0 (2, 2, 2, 0, e5, e6, e7, e8, e9, e10, e11, e12, e13, e14, e15, e16, e17, 0, bz_a1, bz_a2 1, bz_a3, bz_a4, bz_a5 y 4, bz_a6, bz_a7, bz_a8, bz_a9, bz_a10, bz_a11, bz_a12, m13, m14, a15, m16, m17, m18, m19, upd (upd (upd a20 0 (nI 0).toInt16.toInt32) 1 (nI 0).toInt16.toInt32) 2 (nI 0).toInt16.toInt32, a21)) : wpX_run po2 (2, 2, 2, 1, k5, k6, k7, k8, k9, 0, 0, 0, 0, 0, 0, 0, 0, 0, bz_a1, bz_a2 1, bz_a3, bz_a4, bz_a5 y 4, bz_a6, bz_a7, bz_a8, bz_a9, bz_a10, bz_a11, bz_a12, a13, a14, a15, a16, a17, a18, a19, a20, a21) := by
  subst h18 h19
  unfold wpX_run
  refine bz_va_14 ?_
  refine br_f (by decide) ?_
  refine br_f (by decide) ?_
  refine bz_co_14 hy1 hy2 (fun e5 e6 e7 e8 e9 m13 m14 m16 m17 => ?_)
  exact bz_go_14 hq (h _ _ _ _ _ _ _ _ _)
theorem bz_go_22 (hq : q < 65536) (h : ∀ (e10 e11 e12 e13 e14 e15 e16 e17 : Int32) (m18 m19 : Nat → Int32), po2 0 (k1, k2, k3, k4, k5, k6, k7, k8, k9, e10, e11, e12, e13, e14, e15, e16, e17, 0, a1, a2, a3, a4, a5, a6, a7, a8, a9, a10, a11, a12, a13, a14, a15, a16, a17, m18, m19, upd (upd (upd a20 0 (nI q).toInt16.toInt32) 1 (nI 0).toInt16.toInt32) 2 (nI 0).toInt16.toInt32, a21)) : wX_run_21 po2 k1 k2 k3 k4 k5 k6 k7 k8 k9 0 0 0 0 0 0 0 0 0 a1 a2 a3 a4 a5 a6 a7 a8 a9 a10 a11 a12 a13 a14 a15 a16 a17 (bz_mem 0 0 (bz_cd1 254 q) [0, 0, 0, 0, 0, 0, 0, 0, 0, 0, 0, 0, 0, 0, 0, 0, 0, 0]) (bz_rg [0, 0, 0, 0, 0, 0, 0, 0]) a20 a21 := by
  unfold wX_run_21
  refine bz_setWord (M := bz_mem 0 0 (bz_cd1 254 q) [0, 0, 0, 0, 0, 0, 0, 0, 0, 0, 0, 0, 0, 0, 0, 0, 0, 0]) 2 rfl (by decide) (bz_set_st 0) ?_
  refine bz_setWord (M := bz_mem 0 0 (bz_cd1 254 q) [0, 0, 0, 0, 0, 0, 0, 0, 0, 0, 0, 0, 0, 0, 0, 0, 0, 0]) 4 rfl (by decide) (bz_set_ac 0) ?_
  refine Exists.intro 4 ?_
  refine br_f (by decide) ?_
  refine bz_setWord (M := bz_mem 0 0 (bz_cd1 254 q) [0, 0, 0, 0, 0, 0, 0, 0, 0, 0, 0, 0, 0, 0, 0, 0, 0, 0]) 4086 (by decide) (by decide) (bz_set_H (k := 4) (by decide) (by decide) (by decide) 0) ?_
  refine nm_r (e' := (1 : Int32)) (by decide) ?_
  refine br_f (by decide) ?_
  refine bz_setWord (M := bz_mem 0 0 (bz_cd1 254 q) [0, 0, 0, 0, 0, 0, 0, 0, 0, 0, 0, 0, 0, 0, 0, 0, 0, 0]) 4084 (by decide) (by decide) (bz_set_H (k := 5) (by decide) (by decide) (by decide) 0) ?_
  refine nm_r (e' := (2 : Int32)) (by decide) ?_
  refine br_f (by decide) ?_
  refine bz_setWord (M := bz_mem 0 0 (bz_cd1 254 q) [0, 0, 0, 0, 0, 0, 0, 0, 0, 0, 0, 0, 0, 0, 0, 0, 0, 0]) 4082 (by decide) (by decide) (bz_set_H (k := 6) (by decide) (by decide) (by decide) 0) ?_
  refine nm_r (e' := (3 : Int32)) (by decide) ?_
  refine br_t (by decide) ?_
  refine nm_r (e' := bz_rg [0, 0, 0, 0, 4094, 0, 0, 0]) (bz_set_rg (R := [0, 0, 0, 0, 0, 0, 0, 0]) (i := 4) (by decide) 4094) ?_
  refine nm_r (e' := bz_rg [0, 0, 0, 0, 4094, 0, 0, 0]) (bz_set_rg (R := [0, 0, 0, 0, 4094, 0, 0, 0]) (i := 5) (by decide) 0) ?_
  refine Exists.intro (1 + 67) ?_
  refine bz_r12 hq ?_
  refine br_f (by decide) ?_
  refine bz_wordAt 2 3 rfl (by decide) (bz_wst (by decide)) ?_
  refine Exists.intro 4 ?_
  refine br_f (by decide) ?_
  refine bz_wordAt 4086 q (by decide) (by decide) (bz_wH (k := 4) (by decide) rfl hq) ?_
  refine ⟨vp_in_iff.mpr (by decide), ?_⟩
  refine nm_r (e' := (upd a20 0 (nI q).toInt16.toInt32)) rfl ?_
  refine nm_r (e' := (1 : Int32)) (by decide) ?_
  refine br_f (by decide) ?_
  refine bz_wordAt 4084 0 (by decide) (by decide) (bz_wH (k := 5) (by decide) rfl (by decide)) ?_
  refine ⟨vp_in_iff.mpr (by decide), ?_⟩
  refine nm_r (e' := (upd (upd a20 0 (nI q).toInt16.toInt32) 1 (nI 0).toInt16.toInt32)) rfl ?_
  refine nm_r (e' := (2 : Int32)) (by decide) ?_
  refine br_f (by decide) ?_
  refine bz_wordAt 4082 0 (by decide) (by decide) (bz_wH (k := 6) (by decide) rfl (by decide)) ?_
  refine ⟨vp_in_iff.mpr (by decide), ?_⟩
  refine nm_r (e' := (upd (upd (upd a20 0 (nI q).toInt16.toInt32) 1 (nI 0).toInt16.toInt32) 2 (nI 0).toInt16.toInt32)) rfl ?_
  refine nm_r (e' := (3 : Int32)) (by decide) ?_
  refine br_t (by decide) ?_
  exact h _ _ _ _ _ _ _ _ _ _
theorem bz_wr_22 (hy1 : (y &&& 255).toInt8.toInt32 = bz_b (q % 256)) (hy2 : ((y >>> ((8 : Int32) &&& 31)) &&& 255).toInt8.toInt32 = bz_b (q / 256)) (hq : q < 65536) (h18 : a18 = bz_mem 0 0 [0, 0, 0, 0, 0, 0, 0, 0, 0, 0, 0, 0, 0, 0, 0, 0, 0, 0, 0, 0, 0, 0, 0, 0, 0, 0, 0, 0, 0, 0, 0, 0] [0, 0, 0, 0, 0, 0, 0, 0, 0, 0, 0, 0, 0, 0, 0, 0, 0, 0]) (h19 : a19 = bz_rg [0, 0, 0, 0, 0, 0, 0, 0]) (h : ∀ (e5 e6 e7 e8 e9 : Int32) (m13 m14 m16 m17 : Nat → Int32) (e10 e11 e12 e13 e14 e15 e16 e17 : Int32) (m18 m19 : Nat → Int32), po2 0 (2, 2, 2, 0, e5, e6, e7, e8, e9, e10, e11, e12, e13, e14, e15, e16, e17, 0, bz_a1, bz_a2 2, bz_a3, bz_a4, bz_a5 y 2, bz_a6, bz_a7, bz_a8, bz_a9, bz_a10, bz_a11, bz_a12, m13, m14, a15, m16, m17, m18, m19, upd (upd (upd a20 0 (nI q).toInt16.toInt32) 1 (nI 0).toInt16.toInt32) 2 (nI 0).toInt16.toInt32, a21)) : wpX_run po2 (2, 2, 2, 1, k5, k6, k7, k8, k9, 0, 0, 0, 0, 0, 0, 0, 0, 0, bz_a1, bz_a2 2, bz_a3, bz_a4, bz_a5 y 2, bz_a6, bz_a7, bz_a8, bz_a9, bz_a10, bz_a11, bz_a12, a13, a14, a15, a16, a17, a18, a19, a20, a21) := by
  subst h18 h19
  unfold wpX_run
  refine bz_va_22 ?_
  refine br_f (by decide) ?_
  refine br_f (by decide) ?_
  refine bz_co_22 hy1 hy2 (fun e5 e6 e7 e8 e9 m13 m14 m16 m17 => ?_)
  exact bz_go_22 hq (h _ _ _ _ _ _ _ _ _)
theorem bz_go_23 (hq : q < 65536) (h : ∀ (e10 e11 e12 e13 e14 e15 e16 e17 : Int32) (m18 m19 : Nat → Int32), po2 0 (k1, k2, k3, k4, k5, k6, k7, k8, k9, e10, e11, e12, e13, e14, e15, e16, e17, 0, a1, a2, a3, a4, a5, a6, a7, a8, a9, a10, a11, a12, a13, a14, a15, a16, a17, m18, m19, upd (upd (upd a20 0 (nI 0).toInt16.toInt32) 1 (nI q).toInt16.toInt32) 2 (nI 0).toInt16.toInt32, a21)) : wX_run_21 po2 k1 k2 k3 k4 k5 k6 k7 k8 k9 0 0 0 0 0 0 0 0 0 a1 a2 a3 a4 a5 a6 a7 a8 a9 a10 a11 a12 a13 a14 a15 a16 a17 (bz_mem 0 0 (bz_cd1 252 q) [0, 0, 0, 0, 0, 0, 0, 0, 0, 0, 0, 0, 0, 0, 0, 0, 0, 0]) (bz_rg [0, 0, 0, 0, 0, 0, 0, 0]) a20 a21 := by
  unfold wX_run_21
  refine bz_setWord (M := bz_mem 0 0 (bz_cd1 252 q) [0, 0, 0, 0, 0, 0, 0, 0, 0, 0, 0, 0, 0, 0, 0, 0, 0, 0]) 2 rfl (by decide) (bz_set_st 0) ?_
  refine bz_setWord (M := bz_mem 0 0 (bz_cd1 252 q) [0, 0, 0, 0, 0, 0, 0, 0, 0, 0, 0, 0, 0, 0, 0, 0, 0, 0]) 4 rfl (by decide) (bz_set_ac 0) ?_
  refine Exists.intro 4 ?_
  refine br_f (by decide) ?_
  refine bz_setWord (M := bz_mem 0 0 (bz_cd1 252 q) [0, 0, 0, 0, 0, 0, 0, 0, 0, 0, 0, 0, 0, 0, 0, 0, 0, 0]) 4086 (by decide) (by decide) (bz_set_H (k := 4) (by decide) (by decide) (by decide) 0) ?_
  refine nm_r (e' := (1 : Int32)) (by decide) ?_
  refine br_f (by decide) ?_
  refine bz_setWord (M := bz_mem 0 0 (bz_cd1 252 q) [0, 0, 0, 0, 0, 0, 0, 0, 0, 0, 0, 0, 0, 0, 0, 0, 0, 0]) 4084 (by decide) (by decide) (bz_set_H (k := 5) (by decide) (by decide) (by decide) 0) ?_
  refine nm_r (e' := (2 : Int32)) (by decide) ?_
  refine br_f (by decide) ?_
  refine bz_setWord (M := bz_mem 0 0 (bz_cd1 252 q) [0, 0, 0, 0, 0, 0, 0, 0, 0, 0, 0, 0, 0, 0, 0, 0, 0, 0]) 4082 (by decide) (by decide) (bz_set_H (k := 6) (by decide) (by decide) (by decide) 0) ?_
  refine nm_r (e' := (3 : Int32)) (by decide) ?_
  refine br_t (by decide) ?_
  refine nm_r (e' := bz_rg [0, 0, 0, 0, 4094, 0, 0, 0]) (bz_set_rg (R := [0, 0, 0, 0, 0, 0, 0, 0]) (i := 4) (by decide) 4094) ?_
  refine nm_r (e' := bz_rg [0, 0, 0, 0, 4094, 0, 0, 0]) (bz_set_rg (R := [0, 0, 0, 0, 4094, 0, 0, 0]) (i := 5) (by decide) 0) ?_
  refine Exists.intro (1 + 67) ?_
  refine bz_r13 hq ?_
  refine br_f (by decide) ?_
  refine bz_wordAt 2 3 rfl (by decide) (bz_wst (by decide)) ?_
  refine Exists.intro 4 ?_
  refine br_f (by decide) ?_
  refine bz_wordAt 4086 0 (by decide) (by decide) (bz_wH (k := 4) (by decide) rfl (by decide)) ?_
  refine ⟨vp_in_iff.mpr (by decide), ?_⟩
  refine nm_r (e' := (upd a20 0 (nI 0).toInt16.toInt32)) rfl ?_
  refine nm_r (e' := (1 : Int32)) (by decide) ?_
  refine br_f (by decide) ?_
  refine bz_wordAt 4084 q (by decide) (by decide) (bz_wH (k := 5) (by decide) rfl hq) ?_
  refine ⟨vp_in_iff.mpr (by decide), ?_⟩
  refine nm_r (e' := (upd (upd a20 0 (nI 0).toInt16.toInt32) 1 (nI q).toInt16.toInt32)) rfl ?_
  refine nm_r (e' := (2 : Int32)) (by decide) ?_
  refine br_f (by decide) ?_
  refine bz_wordAt 4082 0 (by decide) (by decide) (bz_wH (k := 6) (by decide) rfl (by decide)) ?_
  refine ⟨vp_in_iff.mpr (by decide), ?_⟩
  refine nm_r (e' := (upd (upd (upd a20 0 (nI 0).toInt16.toInt32) 1 (nI q).toInt16.toInt32) 2 (nI 0).toInt16.toInt32)) rfl ?_
  refine nm_r (e' := (3 : Int32)) (by decide) ?_
  refine br_t (by decide) ?_
  exact h _ _ _ _ _ _ _ _ _ _
theorem bz_wr_23 (hy1 : (y &&& 255).toInt8.toInt32 = bz_b (q % 256)) (hy2 : ((y >>> ((8 : Int32) &&& 31)) &&& 255).toInt8.toInt32 = bz_b (q / 256)) (hq : q < 65536) (h18 : a18 = bz_mem 0 0 [0, 0, 0, 0, 0, 0, 0, 0, 0, 0, 0, 0, 0, 0, 0, 0, 0, 0, 0, 0, 0, 0, 0, 0, 0, 0, 0, 0, 0, 0, 0, 0] [0, 0, 0, 0, 0, 0, 0, 0, 0, 0, 0, 0, 0, 0, 0, 0, 0, 0]) (h19 : a19 = bz_rg [0, 0, 0, 0, 0, 0, 0, 0]) (h : ∀ (e5 e6 e7 e8 e9 : Int32) (m13 m14 m16 m17 : Nat → Int32) (e10 e11 e12 e13 e14 e15 e16 e17 : Int32) (m18 m19 : Nat → Int32), po2 0 (2, 2, 2, 0, e5, e6, e7, e8, e9, e10, e11, e12, e13, e14, e15, e16, e17, 0, bz_a1, bz_a2 2, bz_a3, bz_a4, bz_a5 y 3, bz_a6, bz_a7, bz_a8, bz_a9, bz_a10, bz_a11, bz_a12, m13, m14, a15, m16, m17, m18, m19, upd (upd (upd a20 0 (nI 0).toInt16.toInt32) 1 (nI q).toInt16.toInt32) 2 (nI 0).toInt16.toInt32, a21)) : wpX_run po2 (2, 2, 2, 1, k5, k6, k7, k8, k9, 0, 0, 0, 0, 0, 0, 0, 0, 0, bz_a1, bz_a2 2, bz_a3, bz_a4, bz_a5 y 3, bz_a6, bz_a7, bz_a8, bz_a9, bz_a10, bz_a11, bz_a12, a13, a14, a15, a16, a17, a18, a19, a20, a21) := by
  subst h18 h19
  unfold wpX_run
  refine bz_va_23 ?_
  refine br_f (by decide) ?_
  refine br_f (by decide) ?_
  refine bz_co_23 hy1 hy2 (fun e5 e6 e7 e8 e9 m13 m14 m16 m17 => ?_)
  exact bz_go_23 hq (h _ _ _ _ _ _ _ _ _)
theorem bz_go_24 (hq : q < 65536) (h : ∀ (e10 e11 e12 e13 e14 e15 e16 e17 : Int32) (m18 m19 : Nat → Int32), po2 0 (k1, k2, k3, k4, k5, k6, k7, k8, k9, e10, e11, e12, e13, e14, e15, e16, e17, 0, a1, a2, a3, a4, a5, a6, a7, a8, a9, a10, a11, a12, a13, a14, a15, a16, a17, m18, m19, upd (upd (upd a20 0 (nI 0).toInt16.toInt32) 1 (nI 0).toInt16.toInt32) 2 (nI q).toInt16.toInt32, a21)) : wX_run_21 po2 k1 k2 k3 k4 k5 k6 k7 k8 k9 0 0 0 0 0 0 0 0 0 a1 a2 a3 a4 a5 a6 a7 a8 a9 a10 a11 a12 a13 a14 a15 a16 a17 (bz_mem 0 0 (bz_cd1 250 q) [0, 0, 0, 0, 0, 0, 0, 0, 0, 0, 0, 0, 0, 0, 0, 0, 0, 0]) (bz_rg [0, 0, 0, 0, 0, 0, 0, 0]) a20 a21 := by
  unfold wX_run_21
  refine bz_setWord (M := bz_mem 0 0 (bz_cd1 250 q) [0, 0, 0, 0, 0, 0, 0, 0, 0, 0, 0, 0, 0, 0, 0, 0, 0, 0]) 2 rfl (by decide) (bz_set_st 0) ?_
  refine bz_setWord (M := bz_mem 0 0 (bz_cd1 250 q) [0, 0, 0, 0, 0, 0, 0, 0, 0, 0, 0, 0, 0, 0, 0, 0, 0, 0]) 4 rfl (by decide) (bz_set_ac 0) ?_
  refine Exists.intro 4 ?_
  refine br_f (by decide) ?_
  refine bz_setWord (M := bz_mem 0 0 (bz_cd1 250 q) [0, 0, 0, 0, 0, 0, 0, 0, 0, 0, 0, 0, 0, 0, 0, 0, 0, 0]) 4086 (by decide) (by decide) (bz_set_H (k := 4) (by decide) (by decide) (by decide) 0) ?_
  refine nm_r (e' := (1 : Int32)) (by decide) ?_
  refine br_f (by decide) ?_
  refine bz_setWord (M := bz_mem 0 0 (bz_cd1 250 q) [0, 0, 0, 0, 0, 0, 0, 0, 0, 0, 0, 0, 0, 0, 0, 0, 0, 0]) 4084 (by decide) (by decide) (bz_set_H (k := 5) (by decide) (by decide) (by decide) 0) ?_
  refine nm_r (e' := (2 : Int32)) (by decide) ?_
  refine br_f (by decide) ?_
  refine bz_setWord (M := bz_mem 0 0 (bz_cd1 250 q) [0, 0, 0, 0, 0, 0, 0, 0, 0, 0, 0, 0, 0, 0, 0, 0, 0, 0]) 4082 (by decide) (by decide) (bz_set_H (k := 6) (by decide) (by decide) (by decide) 0) ?_
  refine nm_r (e' := (3 : Int32)) (by decide) ?_
  refine br_t (by decide) ?_
  refine nm_r (e' := bz_rg [0, 0, 0, 0, 4094, 0, 0, 0]) (bz_set_rg (R := [0, 0, 0, 0, 0, 0, 0, 0]) (i := 4) (by decide) 4094) ?_
  refine nm_r (e' := bz_rg [0, 0, 0, 0, 4094, 0, 0, 0]) (bz_set_rg (R := [0, 0, 0, 0, 4094, 0, 0, 0]) (i := 5) (by decide) 0) ?_
  refine Exists.intro (1 + 67) ?_
  refine bz_r14 hq ?_
  refine br_f (by decide) ?_
  refine bz_wordAt 2 3 rfl (by decide) (bz_wst (by decide)) ?_
  refine Exists.intro 4 ?_
  refine br_f (by decide) ?_
  refine bz_wordAt 4086 0 (by decide) (by decide) (bz_wH (k := 4) (by decide) rfl (by decide)) ?_
  refine ⟨vp_in_iff.mpr (by decide), ?_⟩
  refine nm_r (e' := (upd a20 0 (nI 0).toInt16.toInt32)) rfl ?_
  refine nm_r (e' := (1 : Int32)) (by decide) ?_
  refine br_f (by decide) ?_
  refine bz_wordAt 4084 0 (by decide) (by decide) (bz_wH (k := 5) (by decide) rfl (by decide)) ?_
  refine ⟨vp_in_iff.mpr (by decide), ?_⟩
  refine nm_r (e' := (upd (upd a20 0 (nI 0).toInt16.toInt32) 1 (nI 0).toInt16.toInt32)) rfl ?_
  refine nm_r (e' := (2 : Int32)) (by decide) ?_
  refine br_f (by decide) ?_
  refine bz_wordAt 4082 q (by decide) (by decide) (bz_wH (k := 6) (by decide) rfl hq) ?_
  refine ⟨vp_in_iff.mpr (by decide), ?_⟩
  refine nm_r (e' := (upd (upd (upd a20 0 (nI 0).toInt16.toInt32) 1 (nI 0).toInt16.toInt32) 2 (nI q).toInt16.toInt32)) rfl ?_
  refine nm_r (e' := (3 : Int32)) (by decide) ?_
  refine br_t (by decide) ?_
  exact h _ _ _ _ _ _ _ _ _ _
theorem bz_wr_24 (hy1 : (y &&& 255).toInt8.toInt32 = bz_b (q % 256)) (hy2 : ((y >>> ((8 : Int32) &&& 31)) &&& 255).toInt8.toInt32 = bz_b (q / 256)) (hq : q < 65536) (h18 : a18 = bz_mem 0 0 [0, 0, 0, 0, 0, 0, 0, 0, 0, 0, 0, 0, 0, 0, 0, 0, 0, 0, 0, 0, 0, 0, 0, 0, 0, 0, 0, 0, 0, 0, 0, 0] [0, 0, 0, 0, 0, 0, 0, 0, 0, 0, 0, 0, 0, 0, 0, 0, 0, 0]) (h19 : a19 = bz_rg [0, 0, 0, 0, 0, 0, 0, 0]) (h : ∀ (e5 e6 e7 e8 e9 : Int32) (m13 m14 m16 m17 : Nat → Int32) (e10 e11 e12 e13 e14 e15 e16 e17 : Int32) (m18 m19 : Nat → Int32), po2 0 (2, 2, 2, 0, e5, e6, e7, e8, e9, e10, e11, e12, e13, e14, e15, e16, e17, 0, bz_a1, bz_a2 2, bz_a3, bz_a4, bz_a5 y 4, bz_a6, bz_a7, bz_a8, bz_a9, bz_a10, bz_a11, bz_a12, m13, m14, a15, m16, m17, m18, m19, upd (upd (upd a20 0 (nI 0).toInt16.toInt32) 1 (nI 0).toInt16.toInt32) 2 (nI q).toInt16.toInt32, a21)) : wpX_run po2 (2, 2, 2, 1, k5, k6, k7, k8, k9, 0, 0, 0, 0, 0, 0, 0, 0, 0, bz_a1, bz_a2 2, bz_a3, bz_a4, bz_a5 y 4, bz_a6, bz_a7, bz_a8, bz_a9, bz_a10, bz_a11, bz_a12, a13, a14, a15, a16, a17, a18, a19, a20, a21) := by
  subst h18 h19
  unfold wpX_run
  refine bz_va_24 ?_
  refine br_f (by decide) ?_
  refine br_f (by decide) ?_
  refine bz_co_24 hy1 hy2 (fun e5 e6 e7 e8 e9 m13 m14 m16 m17 => ?_)
  exact bz_go_24 hq (h _ _ _ _ _ _ _ _ _)
end
end
section
theorem bz_lw_12 (x : Int32) : wL_lawOf_26 (fun r _ => r = 1) 100 6000 2 x.toInt16.toInt32 0 0 0 := by
  obtain ⟨q, hq, hA, hy1, hy2, h1, h2⟩ := bz_num x
  unfold wL_lawOf_26
  refine ⟨by decide, by decide, 30, 5000, by decide, by decide, ?_⟩
  unfold wpX_init
  refine ⟨by decide, by decide, by decide, by decide, by decide, by decide, by decide, by decide, by decide, by decide, by decide, by decide, by decide, by decide, by decide, by decide, by decide, by decide, by decide, by decide, by decide, by decide, by decide, by decide, by decide, by decide, by decide, by decide, by decide, by decide, by decide, by decide, by decide, by decide, by decide, by decide, by decide, by decide, by decide, by decide, by decide, by decide, ?_⟩
  refine bz_p0 ?_
  refine br_t rfl ?_
  refine br_t rfl ?_
  unfold wL_lawOf_62
  refine bz_p1_1 ?_
  refine br_t rfl ?_
  refine bz_e0 h1 h2 ?_
  refine br_t rfl ?_
  refine bz_e1_2 ?_
  refine br_t rfl ?_
  refine bz_s0 ?_
  refine br_t rfl ?_
  refine bz_s1_1 ?_
  refine br_t rfl ?_
  refine bz_b1 ?_
  refine br_f (by decide) ?_
  refine bz_b0 ?_
  refine br_f (by decide) ?_
  refine bz_wr_12 hy1 hy2 hq bz_mem0 bz_rg0 (fun e5 e6 e7 e8 e9 m13 m14 m16 m17 e10 e11 e12 e13 e14 e15 e16 e17 m18 m19 => ?_)
  refine br_t rfl ?_
  unfold wpX_variable
  refine br_f (by decide) ?_
  refine br_t (by decide) ?_
  refine ⟨vp_in_iff.mpr (by decide), ?_⟩
  refine br_t rfl ?_
  refine br_t ?_ rfl
  show (nI 0).toInt16.toInt32 = 0
  decide
theorem bz_lw_13 (x : Int32) : wL_lawOf_26 (fun r _ => r = 1) 100 6000 3 x.toInt16.toInt32 0 0 0 := by
  obtain ⟨q, hq, hA, hy1, hy2, h1, h2⟩ := bz_num x
  unfold wL_lawOf_26
  refine ⟨by decide, by decide, 30, 5000, by decide, by decide, ?_⟩
  unfold wpX_init
  refine ⟨by decide, by decide, by decide, by decide, by decide, by decide, by decide, by decide, by decide, by decide, by decide, by decide, by decide, by decide, by decide, by decide, by decide, by decide, by decide, by decide, by decide, by decide, by decide, by decide, by decide, by decide, by decide, by decide, by decide, by decide, by decide, by decide, by decide, by decide, by decide, by decide, by decide, by decide, by decide, by decide, by decide, by decide, ?_⟩
  refine bz_p0 ?_
  refine br_t rfl ?_
  refine br_t rfl ?_
  unfold wL_lawOf_62
  refine bz_p1_1 ?_
  refine br_t rfl ?_
  refine bz_e0 h1 h2 ?_
  refine br_t rfl ?_
  refine bz_e1_3 ?_
  refine br_t rfl ?_
  refine bz_s0 ?_
  refine br_t rfl ?_
  refine bz_s1_1 ?_
  refine br_t rfl ?_
  refine bz_b1 ?_
  refine br_f (by decide) ?_
  refine bz_b0 ?_
  refine br_f (by decide) ?_
  refine bz_wr_13 hy1 hy2 hq bz_mem0 bz_rg0 (fun e5 e6 e7 e8 e9 m13 m14 m16 m17 e10 e11 e12 e13 e14 e15 e16 e17 m18 m19 => ?_)
  refine br_t rfl ?_
  unfold wpX_variable
  refine br_f (by decide) ?_
  refine br_t (by decide) ?_
  refine ⟨vp_in_iff.mpr (by decide), ?_⟩
  refine br_t rfl ?_
  refine br_t ?_ rfl
  show (nI 0).toInt16.toInt32 = 0
  decide
theorem bz_lw_14 (x : Int32) : wL_lawOf_26 (fun r _ => r = 1) 100 6000 4 x.toInt16.toInt32 0 0 0 := by
  obtain ⟨q, hq, hA, hy1, hy2, h1, h2⟩ := bz_num x
  unfold wL_lawOf_26
  refine ⟨by decide, by decide, 30, 5000, by decide, by decide, ?_⟩
  unfold wpX_init
  refine ⟨by decide, by decide, by decide, by decide, by decide, by decide, by decide, by decide, by decide, by decide, by decide, by decide, by decide, by decide, by decide, by decide, by decide, by decide, by decide, by decide, by decide, by decide, by decide, by decide, by decide, by decide, by decide, by decide, by decide, by decide, by decide, by decide, by decide, by decide, by decide, by decide, by decide, by decide, by decide, by decide, by decide, by decide, ?_⟩
  refine bz_p0 ?_
  refine br_t rfl ?_
  refine br_t rfl ?_
  unfold wL_lawOf_62
  refine bz_p1_1 ?_
  refine br_t rfl ?_
  refine bz_e0 h1 h2 ?_
  refine br_t rfl ?_
  refine bz_e1_4 ?_
  refine br_t rfl ?_
  refine bz_s0 ?_
  refine br_t rfl ?_
  refine bz_s1_1 ?_
  refine br_t rfl ?_
  refine bz_b1 ?_
  refine br_f (by decide) ?_
  refine bz_b0 ?_
  refine br_f (by decide) ?_
  refine bz_wr_14 hy1 hy2 hq bz_mem0 bz_rg0 (fun e5 e6 e7 e8 e9 m13 m14 m16 m17 e10 e11 e12 e13 e14 e15 e16 e17 m18 m19 => ?_)
  refine br_t rfl ?_
  unfold wpX_variable
  refine br_f (by decide) ?_
  refine br_t (by decide) ?_
  refine ⟨vp_in_iff.mpr (by decide), ?_⟩
  refine br_t rfl ?_
  refine br_t ?_ rfl
  show (nI 0).toInt16.toInt32 = 0
  decide
theorem bz_lw_22 (x : Int32) : wL_lawOf_26 (fun r _ => r = 1) 100 6000 2 x.toInt16.toInt32 1 0 0 := by
  obtain ⟨q, hq, hA, hy1, hy2, h1, h2⟩ := bz_num x
  unfold wL_lawOf_26
  refine ⟨by decide, by decide, 30, 5000, by decide, by decide, ?_⟩
  unfold wpX_init
  refine ⟨by decide, by decide, by decide, by decide, by decide, by decide, by decide, by decide, by decide, by decide, by decide, by decide, by decide, by decide, by decide, by decide, by decide, by decide, by decide, by decide, by decide, by decide, by decide, by decide, by decide, by decide, by decide, by decide, by decide, by decide, by decide, by decide, by decide, by decide, by decide, by decide, by decide, by decide, by decide, by decide, by decide, by decide, ?_⟩
  refine bz_p0 ?_
  refine br_t rfl ?_
  refine br_f (by decide) ?_
  unfold wL_lawOf_62
  refine bz_p1_2 ?_
  refine br_t rfl ?_
  refine bz_e0 h1 h2 ?_
  refine br_t rfl ?_
  refine bz_e1_2 ?_
  refine br_t rfl ?_
  refine bz_s0 ?_
  refine br_t rfl ?_
  refine bz_s1_2 ?_
  refine br_t rfl ?_
  refine bz_b1 ?_
  refine br_f (by decide) ?_
  refine bz_b0 ?_
  refine br_f (by decide) ?_
  refine bz_wr_22 hy1 hy2 hq bz_mem0 bz_rg0 (fun e5 e6 e7 e8 e9 m13 m14 m16 m17 e10 e11 e12 e13 e14 e15 e16 e17 m18 m19 => ?_)
  refine br_t rfl ?_
  unfold wpX_variable
  refine br_f (by decide) ?_
  refine br_t (by decide) ?_
  refine ⟨vp_in_iff.mpr (by decide), ?_⟩
  refine br_f (by decide) ?_
  refine br_t ?_ rfl
  exact hA
theorem bz_lw_23 (x : Int32) : wL_lawOf_26 (fun r _ => r = 1) 100 6000 3 x.toInt16.toInt32 1 0 0 := by
  obtain ⟨q, hq, hA, hy1, hy2, h1, h2⟩ := bz_num x
  unfold wL_lawOf_26
  refine ⟨by decide, by decide, 30, 5000, by decide, by decide, ?_⟩
  unfold wpX_init
  refine ⟨by decide, by decide, by decide, by decide, by decide, by decide, by decide, by decide, by decide, by decide, by decide, by decide, by decide, by decide, by decide, by decide, by decide, by decide, by decide, by decide, by decide, by decide, by decide, by decide, by decide, by decide, by decide, by decide, by decide, by decide, by decide, by decide, by decide, by decide, by decide, by decide, by decide, by decide, by decide, by decide, by decide, by decide, ?_⟩
  refine bz_p0 ?_
  refine br_t rfl ?_
  refine br_f (by decide) ?_
  unfold wL_lawOf_62
  refine bz_p1_2 ?_
  refine br_t rfl ?_
  refine bz_e0 h1 h2 ?_
  refine br_t rfl ?_
  refine bz_e1_3 ?_
  refine br_t rfl ?_
  refine bz_s0 ?_
  refine br_t rfl ?_
  refine bz_s1_2 ?_
  refine br_t rfl ?_
  refine bz_b1 ?_
  refine br_f (by decide) ?_
  refine bz_b0 ?_
  refine br_f (by decide) ?_
  refine bz_wr_23 hy1 hy2 hq bz_mem0 bz_rg0 (fun e5 e6 e7 e8 e9 m13 m14 m16 m17 e10 e11 e12 e13 e14 e15 e16 e17 m18 m19 => ?_)
  refine br_t rfl ?_
  unfold wpX_variable
  refine br_f (by decide) ?_
  refine br_t (by decide) ?_
  refine ⟨vp_in_iff.mpr (by decide), ?_⟩
  refine br_f (by decide) ?_
  refine br_t ?_ rfl
  exact hA
theorem bz_lw_24 (x : Int32) : wL_lawOf_26 (fun r _ => r = 1) 100 6000 4 x.toInt16.toInt32 1 0 0 := by
  obtain ⟨q, hq, hA, hy1, hy2, h1, h2⟩ := bz_num x
  unfold wL_lawOf_26
  refine ⟨by decide, by decide, 30, 5000, by decide, by decide, ?_⟩
  unfold wpX_init
  refine ⟨by decide, by decide, by decide, by decide, by decide, by decide, by decide, by decide, by decide, by decide, by decide, by decide, by decide, by decide, by decide, by decide, by decide, by decide, by decide, by decide, by decide, by decide, by decide, by decide, by decide, by decide, by decide, by decide, by decide, by decide, by decide, by decide, by decide, by decide, by decide, by decide, by decide, by decide, by decide, by decide, by decide, by decide, ?_⟩
  refine bz_p0 ?_
  refine br_t rfl ?_
  refine br_f (by decide) ?_
  unfold wL_lawOf_62
  refine bz_p1_2 ?_
  refine br_t rfl ?_
  refine bz_e0 h1 h2 ?_
  refine br_t rfl ?_
  refine bz_e1_4 ?_
  refine br_t rfl ?_
  refine bz_s0 ?_
  refine br_t rfl ?_
  refine bz_s1_2 ?_
  refine br_t rfl ?_
  refine bz_b1 ?_
  refine br_f (by decide) ?_
  refine bz_b0 ?_
  refine br_f (by decide) ?_
  refine bz_wr_24 hy1 hy2 hq bz_mem0 bz_rg0 (fun e5 e6 e7 e8 e9 m13 m14 m16 m17 e10 e11 e12 e13 e14 e15 e16 e17 m18 m19 => ?_)
  refine br_t rfl ?_
  unfold wpX_variable
  refine br_f (by decide) ?_
  refine br_t (by decide) ?_
  refine ⟨vp_in_iff.mpr (by decide), ?_⟩
  refine br_f (by decide) ?_
  refine br_t ?_ rfl
  exact hA
theorem bz_cell {post : Int32 → Prop} {L : Nat} {xs : Nat → Int32} {p : Int32} (hL : L ≤ 3) (i : Nat) (hi : i < 3) (hp : p = nI i) (h : ∀ x, post x) : wpL_cellAt post L xs () p := by
  subst hp
  unfold wpL_cellAt
  refine br_c (fun _ => h _) (fun hn => ⟨vp_in_nI ?_ (by omega), h _⟩)
  rcases Nat.lt_or_ge i L with z | z
  · exact z
  · exact absurd (nI_le z (by omega)) hn
theorem i_vc (xs : Nat → Int32) (L : Nat) (hL : L ≤ 3) : wpL_law (fun r => r = 1) L xs := by
  unfold wpL_law
  refine bz_cell hL 0 (by decide) rfl (fun x => ?_)
  refine bz_cell hL 1 (by decide) rfl (fun lo => ?_)
  refine bz_cell hL 2 (by decide) rfl (fun how => ?_)
  refine ⟨100, 6000, by decide, by decide, ?_⟩
  unfold wpL_lawOf
  refine ⟨by decide, ?_⟩
  obtain ⟨j, hj, ej⟩ := pk_andE lo (m := 255) 8 (by decide)
  have er : 2 + ((lo &&& 255) - (lo &&& 255) / 3 * 3) = 2 + nI (j % 3) := by
    rw [ej]
    exact congrArg (fun z => (2 : Int32) + z) (pk_rem (d := 3) (by omega) (by decide) (by decide))
  refine nm_r er ?_
  have h3 : j % 3 = 0 ∨ j % 3 = 1 ∨ j % 3 = 2 := by omega
  rcases h3 with e | e | e
  · rw [e]
    exact br_c (fun _ => bz_lw_22 x) (fun _ => bz_lw_12 x)
  · rw [e]
    exact br_c (fun _ => bz_lw_23 x) (fun _ => bz_lw_13 x)
  · rw [e]
    exact br_c (fun _ => bz_lw_24 x) (fun _ => bz_lw_14 x)
end
