section
/-! Whole numbers: the saturation, what is due of a kind, and the two machine types over them. -/
/-- a whole number saturated to sixteen bits -/
def dq_S (v : Int) : Int := if 32767 < v then 32767 else if v < -32768 then -32768 else v
/-- what node 1 of kind q with shift k owes of the saturated input v -/
def dq_D (q k : Nat) (v : Int) : Int := if q = 6 then dq_S (-v) else if q = 7 then dq_S (if 0 ≤ v then v else -v) else if q = 8 then dq_S (v * ((2 ^ k : Nat) : Int)) else v / ((2 ^ k : Nat) : Int)
theorem dq_S_hi {v : Int} (h : 32767 < v) : dq_S v = 32767 := by
  unfold dq_S
  rw [if_pos h]
theorem dq_S_lo {v : Int} (h : v < -32768) : dq_S v = -32768 := by
  unfold dq_S
  rw [if_neg (by omega), if_pos h]
theorem dq_S_mid {v : Int} (h : -32768 ≤ v) (h' : v ≤ 32767) : dq_S v = v := by
  unfold dq_S
  rw [if_neg (by omega), if_neg (by omega)]
theorem dq_S_in (v : Int) : -32768 ≤ dq_S v ∧ dq_S v ≤ 32767 := by
  by_cases h : 32767 < v
  · rw [dq_S_hi h]
    omega
  · by_cases h' : v < -32768
    · rw [dq_S_lo h']
      omega
    · rw [dq_S_mid (by omega) (by omega)]
      omega
theorem dq_i {v : Int} (h : -2147483648 ≤ v) (h' : v ≤ 2147483647) : (Int32.ofInt v).toInt = v :=
  Int32.toInt_ofInt_of_le (by omega) (by omega)
theorem dq_l {v : Int} (h : -2147483648 ≤ v) (h' : v ≤ 2147483647) : (Int64.ofInt v).toInt = v :=
  Int64.toInt_ofInt_of_le (by omega) (by omega)
theorem dq_il {v : Int} (h : -2147483648 ≤ v) (h' : v ≤ 2147483647) : (Int32.ofInt v).toInt64 = Int64.ofInt v := by
  apply Int64.toInt_inj.mp
  rw [Int32.toInt_toInt64, dq_i h h', dq_l h h']
theorem dq_li (v : Int) : (Int64.ofInt v).toInt32 = Int32.ofInt v := Int64.toInt32_ofInt
theorem dq_c31 : ∀ k, k < 8 → ((nI k &&& 31).toBitVec.smod 32).toNat = k := by decide +kernel
theorem dq_c63 : ∀ k, k < 8 → (((nI k).toInt64 &&& 63).toBitVec.smod 64).toNat = k := by decide +kernel
theorem dq_t32 : ∀ k, k < 8 → BitVec.twoPow 32 k = BitVec.ofInt 32 ((2 ^ k : Nat) : Int) := by decide +kernel
theorem dq_t64 : ∀ k, k < 8 → BitVec.twoPow 64 k = BitVec.ofInt 64 ((2 ^ k : Nat) : Int) := by decide +kernel
theorem dq_shl32 {k : Nat} (hk : k < 8) (v : Int) : Int32.ofInt v <<< (nI k &&& 31) = Int32.ofInt (v * ((2 ^ k : Nat) : Int)) := by
  apply Int32.toBitVec_inj.mp
  show BitVec.ofInt 32 v <<< ((nI k &&& 31).toBitVec.smod 32).toNat = BitVec.ofInt 32 (v * ((2 ^ k : Nat) : Int))
  rw [dq_c31 k hk, BitVec.ofInt_mul, BitVec.shiftLeft_eq_mul_twoPow, dq_t32 k hk]
theorem dq_shl64 {k : Nat} (hk : k < 8) (v : Int) : Int64.ofInt v <<< ((nI k).toInt64 &&& 63) = Int64.ofInt (v * ((2 ^ k : Nat) : Int)) := by
  apply Int64.toBitVec_inj.mp
  show BitVec.ofInt 64 v <<< (((nI k).toInt64 &&& 63).toBitVec.smod 64).toNat = BitVec.ofInt 64 (v * ((2 ^ k : Nat) : Int))
  rw [dq_c63 k hk, BitVec.ofInt_mul, BitVec.shiftLeft_eq_mul_twoPow, dq_t64 k hk]
theorem dq_pw {k : Nat} (hk : k < 8) : (1 : Int) ≤ ((2 ^ k : Nat) : Int) ∧ ((2 ^ k : Nat) : Int) ≤ 128 := by
  have h : ∀ k, k < 8 → 1 ≤ 2 ^ k ∧ 2 ^ k ≤ 128 := by decide
  have h' := h k hk
  omega
theorem dq_div {v p : Int} (hp : 1 ≤ p) (h : -32768 ≤ v) (h' : v ≤ 32767) : -32768 ≤ v / p ∧ v / p ≤ 32767 :=
  ⟨Int.le_ediv_of_mul_le (by omega) (by omega), Int.ediv_le_of_le_mul (by omega) (by omega)⟩
theorem dq_mul {v p : Int} (hp : 1 ≤ p) (hp' : p ≤ 128) (h : -32768 ≤ v) (h' : v ≤ 32767) : -2147483648 ≤ v * p ∧ v * p ≤ 2147483647 := by
  have a : v * p ≤ 32767 * p := Int.mul_le_mul_of_nonneg_right h' (by omega)
  have b : -32768 * p ≤ v * p := Int.mul_le_mul_of_nonneg_right h (by omega)
  omega
theorem dq_shr32 {k : Nat} (hk : k < 8) {v : Int} (h : -32768 ≤ v) (h' : v ≤ 32767) : Int32.ofInt v >>> (nI k &&& 31) = Int32.ofInt (v / ((2 ^ k : Nat) : Int)) := by
  have d := dq_div (dq_pw hk).1 h h'
  apply Int32.toInt_inj.mp
  rw [pk_shr _ _ k (dq_c31 k hk), dq_i (by omega) (by omega), dq_i (by omega) (by omega), Int.shiftRight_eq_div_pow]
theorem dq_shr64 {k : Nat} (hk : k < 8) {v : Int} (h : -32768 ≤ v) (h' : v ≤ 32767) : Int64.ofInt v >>> ((nI k).toInt64 &&& 63) = Int64.ofInt (v / ((2 ^ k : Nat) : Int)) := by
  have d := dq_div (dq_pw hk).1 h h'
  apply Int64.toInt_inj.mp
  have e : (Int64.ofInt v >>> ((nI k).toInt64 &&& 63)).toInt = (Int64.ofInt v).toInt >>> k := by
    show ((Int64.ofInt v).toBitVec.sshiftRight (((nI k).toInt64 &&& 63).toBitVec.smod 64).toNat).toInt = _
    rw [dq_c63 k hk, BitVec.toInt_sshiftRight]
    rfl
  rw [e, dq_l (by omega) (by omega), dq_l (by omega) (by omega), Int.shiftRight_eq_div_pow]
/-- the law's own saturation -/
theorem dq_sat {post : Int32 → Prop} {u : St0} {p : Int32} (h : post (Int32.ofInt (dq_S p.toInt))) : wpL_sat post u p := by
  have e1 : (32767 : Int32).toInt = 32767 := by decide
  have e2 : (-32768 : Int32).toInt = -32768 := by decide
  refine br_c (fun h1 => br_c (fun h2 => ?_) (fun h2 => ?_)) (fun h1 => ?_)
  · rw [Int32.le_iff_toInt_le] at h1 h2
    rw [dq_S_mid (by omega) (by omega), Int32.ofInt_toInt] at h
    exact h
  · rw [Int32.le_iff_toInt_le] at h1 h2
    rw [dq_S_lo (by omega)] at h
    exact h
  · rw [Int32.le_iff_toInt_le] at h1
    rw [dq_S_hi (by omega)] at h
    exact h
/-- the class's saturation, over longs -/
theorem dq_saturated {post : Int64 → Prop} {u : St2} {p : Int64} (h : post (Int64.ofInt (dq_S p.toInt))) : wpX_saturated post u p := by
  have e1 : (32767 : Int64).toInt = 32767 := by decide
  have e2 : (-32768 : Int64).toInt = -32768 := by decide
  refine br_c (fun h1 => br_c (fun h2 => ?_) (fun h2 => ?_)) (fun h1 => ?_)
  · rw [Int64.le_iff_toInt_le] at h1 h2
    rw [dq_S_mid (by omega) (by omega), Int64.ofInt_toInt] at h
    exact h
  · rw [Int64.le_iff_toInt_le] at h1 h2
    rw [dq_S_lo (by omega)] at h
    exact h
  · rw [Int64.le_iff_toInt_le] at h1
    rw [dq_S_hi (by omega)] at h
    exact h
end
section
/-! The machine: one lemma an instruction, then feed's loop over the code of the three nodes. -/
section
variable {post : Int32 → St2 → Prop} {n i c d : Nat} {nc cp iz pl hl sc : Int32} {acc : Int64} {a1 a2 a3 a4 a5 a6 a7 a8 a9 a10 a11 : Nat → Int32}
/-- LOAD -/
theorem dq_f0 (hi : i < c) (hc : c ≤ 300) (h8 : a8 i = 0) (h10 : a10 i = nI d) (hd : d < 42) {w : Int64} (hw : (a11 d).toInt64 = w) (H : wX_feed_29 post n (nI (i + 1)) nc cp iz pl (nI c) hl w sc a1 a2 a3 a4 a5 a6 a7 a8 a9 a10 a11) : wX_feed_29 post (n + 1) (nI i) nc cp iz pl (nI c) hl acc sc a1 a2 a3 a4 a5 a6 a7 a8 a9 a10 a11 := by
  refine br_f (nI_ge hi (by omega)) ?_
  unfold wpX_perform
  try dsimp only
  rw [nI_clamp (show i < 2 ^ 31 by omega), h8, h10, nI_clamp (show d < 2 ^ 31 by omega)]
  have b := pk_in i 300 (by omega)
  have b' := pk_in d 42 hd
  refine ⟨b, nm_e ⟨b, b', nm_e ⟨b, nm_e ?_⟩⟩⟩
  rw [hw]
  exact br_t rfl (nm_r (nI_1 i) H)
/-- STORE -/
theorem dq_f2 (hi : i < c) (hc : c ≤ 300) (h8 : a8 i = 2) (h10 : a10 i = nI d) (hd : d < 42) {w : Int32} (hw : acc.toInt32 = w) (H : wX_feed_29 post n (nI (i + 1)) nc cp iz pl (nI c) hl acc sc a1 a2 a3 a4 a5 a6 a7 a8 a9 a10 (upd a11 d w)) : wX_feed_29 post (n + 1) (nI i) nc cp iz pl (nI c) hl acc sc a1 a2 a3 a4 a5 a6 a7 a8 a9 a10 a11 := by
  refine br_f (nI_ge hi (by omega)) ?_
  unfold wpX_perform
  try dsimp only
  rw [nI_clamp (show i < 2 ^ 31 by omega), h8, h10, nI_clamp (show d < 2 ^ 31 by omega)]
  have b := pk_in i 300 (by omega)
  have b' := pk_in d 42 hd
  refine ⟨b, nm_e ⟨b, b', nm_e ⟨b, nm_e ?_⟩⟩⟩
  rw [hw]
  exact br_f (by decide) (br_f (by decide) (br_t rfl ⟨b, b', nm_e (nm_r (nI_1 i) H)⟩))
/-- SATURATE -/
theorem dq_f12 (hi : i < c) (hc : c ≤ 300) (h8 : a8 i = 12) (h10 : a10 i = nI d) (hd : d < 42) {v : Int} (hv : acc = Int64.ofInt v) (v1 : -2147483648 ≤ v) (v2 : v ≤ 2147483647) (H : wX_feed_29 post n (nI (i + 1)) nc cp iz pl (nI c) hl (Int64.ofInt (dq_S v)) sc a1 a2 a3 a4 a5 a6 a7 a8 a9 a10 a11) : wX_feed_29 post (n + 1) (nI i) nc cp iz pl (nI c) hl acc sc a1 a2 a3 a4 a5 a6 a7 a8 a9 a10 a11 := by
  refine br_f (nI_ge hi (by omega)) ?_
  unfold wpX_perform
  try dsimp only
  rw [nI_clamp (show i < 2 ^ 31 by omega), h8, h10, nI_clamp (show d < 2 ^ 31 by omega)]
  have b := pk_in i 300 (by omega)
  have b' := pk_in d 42 hd
  refine ⟨b, nm_e ⟨b, b', nm_e ⟨b, nm_e ?_⟩⟩⟩
  refine br_f (by decide) (br_f (by decide) (br_f (by decide) (br_f (by decide) (br_f (by decide) (br_f (by decide) (br_t rfl (dq_saturated ?_)))))))
  rw [hv, dq_l v1 v2]
  exact nm_r (nI_1 i) H
/-- CHANGE_SIGN -/
theorem dq_f6 (hi : i < c) (hc : c ≤ 300) (h8 : a8 i = nI 6) (h10 : a10 i = nI d) (hd : d < 42) (H : wX_feed_29 post n (nI (i + 1)) nc cp iz pl (nI c) hl (-acc) sc a1 a2 a3 a4 a5 a6 a7 a8 a9 a10 a11) : wX_feed_29 post (n + 1) (nI i) nc cp iz pl (nI c) hl acc sc a1 a2 a3 a4 a5 a6 a7 a8 a9 a10 a11 := by
  refine br_f (nI_ge hi (by omega)) ?_
  unfold wpX_perform
  try dsimp only
  rw [nI_clamp (show i < 2 ^ 31 by omega), h8, h10, nI_clamp (show d < 2 ^ 31 by omega)]
  have b := pk_in i 300 (by omega)
  have b' := pk_in d 42 hd
  refine ⟨b, nm_e ⟨b, b', nm_e ⟨b, nm_e ?_⟩⟩⟩
  refine br_f (by decide) (br_f (by decide) (br_f (by decide) (br_f (by decide) (br_f (by decide) (br_f (by decide) (br_f (by decide) (?_)))))))
  unfold wpX_performSpecial
  exact br_f (by decide) (br_t rfl (nm_e (nm_r (nI_1 i) H)))
/-- DROP_SIGN -/
theorem dq_f7 (hi : i < c) (hc : c ≤ 300) (h8 : a8 i = nI 7) (h10 : a10 i = nI d) (hd : d < 42) {w : Int64} (hw : w = if 0 ≤ acc then acc else -acc) (H : wX_feed_29 post n (nI (i + 1)) nc cp iz pl (nI c) hl w sc a1 a2 a3 a4 a5 a6 a7 a8 a9 a10 a11) : wX_feed_29 post (n + 1) (nI i) nc cp iz pl (nI c) hl acc sc a1 a2 a3 a4 a5 a6 a7 a8 a9 a10 a11 := by
  refine br_f (nI_ge hi (by omega)) ?_
  unfold wpX_perform
  try dsimp only
  rw [nI_clamp (show i < 2 ^ 31 by omega), h8, h10, nI_clamp (show d < 2 ^ 31 by omega)]
  have b := pk_in i 300 (by omega)
  have b' := pk_in d 42 hd
  refine ⟨b, nm_e ⟨b, b', nm_e ⟨b, nm_e ?_⟩⟩⟩
  refine br_f (by decide) (br_f (by decide) (br_f (by decide) (br_f (by decide) (br_f (by decide) (br_f (by decide) (br_f (by decide) (?_)))))))
  unfold wpX_performSpecial
  refine br_f (by decide) (br_f (by decide) (br_t rfl (br_c (fun z => ?_) (fun z => ?_))))
  · rw [if_pos z] at hw
    rw [hw] at H
    exact nm_r (nI_1 i) H
  · rw [if_neg z] at hw
    rw [hw] at H
    exact nm_e (nm_r (nI_1 i) H)
/-- SHIFT_LEFT -/
theorem dq_f8 (hi : i < c) (hc : c ≤ 300) (h8 : a8 i = nI 8) (h10 : a10 i = nI d) (hd : d < 42) {w : Int64} (hw : acc <<< ((a9 i).toInt64 &&& 63) = w) (H : wX_feed_29 post n (nI (i + 1)) nc cp iz pl (nI c) hl w sc a1 a2 a3 a4 a5 a6 a7 a8 a9 a10 a11) : wX_feed_29 post (n + 1) (nI i) nc cp iz pl (nI c) hl acc sc a1 a2 a3 a4 a5 a6 a7 a8 a9 a10 a11 := by
  refine br_f (nI_ge hi (by omega)) ?_
  unfold wpX_perform
  try dsimp only
  rw [nI_clamp (show i < 2 ^ 31 by omega), h8, h10, nI_clamp (show d < 2 ^ 31 by omega)]
  have b := pk_in i 300 (by omega)
  have b' := pk_in d 42 hd
  refine ⟨b, nm_e ⟨b, b', nm_e ⟨b, nm_e ?_⟩⟩⟩
  refine br_f (by decide) (br_f (by decide) (br_f (by decide) (br_f (by decide) (br_f (by decide) (br_f (by decide) (br_f (by decide) (?_)))))))
  unfold wpX_performSpecial
  exact br_f (by decide) (br_f (by decide) (br_f (by decide) (br_t rfl (nm_r hw (nm_r (nI_1 i) H)))))
/-- SHIFT_RIGHT -/
theorem dq_f9 (hi : i < c) (hc : c ≤ 300) (h8 : a8 i = nI 9) (h10 : a10 i = nI d) (hd : d < 42) {w : Int64} (hw : acc >>> ((a9 i).toInt64 &&& 63) = w) (H : wX_feed_29 post n (nI (i + 1)) nc cp iz pl (nI c) hl w sc a1 a2 a3 a4 a5 a6 a7 a8 a9 a10 a11) : wX_feed_29 post (n + 1) (nI i) nc cp iz pl (nI c) hl acc sc a1 a2 a3 a4 a5 a6 a7 a8 a9 a10 a11 := by
  refine br_f (nI_ge hi (by omega)) ?_
  unfold wpX_perform
  try dsimp only
  rw [nI_clamp (show i < 2 ^ 31 by omega), h8, h10, nI_clamp (show d < 2 ^ 31 by omega)]
  have b := pk_in i 300 (by omega)
  have b' := pk_in d 42 hd
  refine ⟨b, nm_e ⟨b, b', nm_e ⟨b, nm_e ?_⟩⟩⟩
  refine br_f (by decide) (br_f (by decide) (br_f (by decide) (br_f (by decide) (br_f (by decide) (br_f (by decide) (br_f (by decide) (?_)))))))
  unfold wpX_performSpecial
  exact br_f (by decide) (br_f (by decide) (br_f (by decide) (br_f (by decide) (br_t rfl (nm_r hw (nm_r (nI_1 i) H))))))
/-- the code of the three nodes: node 1 is of kind q with shift k, c instructions; its STORE stands at e -/
abbrev dq_code (q k e c : Nat) (a8 a9 a10 : Nat → Int32) : Prop := (a8 0 = 0 ∧ a10 0 = nI 20) ∧ (a8 1 = 2 ∧ a10 1 = nI 0) ∧ (a8 2 = 0 ∧ a10 2 = nI 41) ∧ (a8 3 = 2 ∧ a10 3 = nI 2) ∧ (a8 4 = nI q ∧ a10 4 = nI 40) ∧ (8 ≤ q → a9 4 = nI k) ∧ ((q ≠ 9 ∧ e = 6 ∧ a8 5 = 12 ∧ a10 5 = nI 40) ∨ (q = 9 ∧ e = 5)) ∧ (a8 e = 2 ∧ a10 e = nI 1) ∧ (a8 (e + 1) = 0 ∧ a10 (e + 1) = nI 2) ∧ (a8 (e + 2) = 2 ∧ a10 (e + 2) = nI 20) ∧ c = e + 3
/-- the last three instructions: STORE 1, LOAD 2, STORE 20 -/
theorem dq_tail {e : Nat} {v w : Int} (he : e ≤ 6) (ec : c = e + 3) (s1 : a8 e = 2 ∧ a10 e = nI 1) (s2 : a8 (e + 1) = 0 ∧ a10 (e + 1) = nI 2) (s3 : a8 (e + 2) = 2 ∧ a10 (e + 2) = nI 20) (v1 : -2147483648 ≤ v) (v2 : v ≤ 2147483647) (h2 : a11 2 = Int32.ofInt v) (H : post 1 (nc, cp, iz, pl, nI c, hl, Int64.ofInt v, sc + 1, a1, a2, a3, a4, a5, a6, a7, a8, a9, a10, upd (upd a11 1 (Int32.ofInt w)) 20 (Int32.ofInt v))) : wX_feed_29 post (n + 4) (nI e) nc cp iz pl (nI c) hl (Int64.ofInt w) sc a1 a2 a3 a4 a5 a6 a7 a8 a9 a10 a11 := by
  refine dq_f2 (by omega) (by omega) s1.1 s1.2 (by omega) (dq_li w) ?_
  refine dq_f0 (w := Int64.ofInt v) (by omega) (by omega) s2.1 s2.2 (by omega) ?_ ?_
  · rw [pk_un (by decide), h2]
    exact dq_il v1 v2
  refine dq_f2 (by omega) (by omega) s3.1 s3.2 (by omega) (dq_li v) ?_
  exact br_t (nI_le (by omega) (by omega)) (nm_e H)
/-- feed's loop over that code -/
theorem dq_run {q k e : Nat} {v : Int} (hq : 6 ≤ q) (hq' : q ≤ 9) (hk : k < 8) (hcd : dq_code q k e c a8 a9 a10) (v1 : -32768 ≤ v) (v2 : v ≤ 32767) (h41 : a11 41 = Int32.ofInt v) (H : ∀ a : Nat → Int32, a 0 = a11 20 → a 1 = Int32.ofInt (dq_D q k v) → a 2 = Int32.ofInt v → a 20 = Int32.ofInt v → post 1 (nc, cp, iz, pl, nI c, hl, Int64.ofInt v, sc + 1, a1, a2, a3, a4, a5, a6, a7, a8, a9, a10, a)) : ∃ fu, wX_feed_29 post fu 0 nc cp iz pl (nI c) hl acc sc a1 a2 a3 a4 a5 a6 a7 a8 a9 a10 a11 := by
  obtain ⟨⟨o0, c0⟩, ⟨o1, c1⟩, ⟨o2, c2⟩, ⟨o3, c3⟩, ⟨o4, c4⟩, n4, hs, s1, s2, s3, ec⟩ := hcd
  have he : e = 6 ∨ e = 5 := by
    rcases hs with hs | hs
    · exact Or.inl hs.2.1
    · exact Or.inr hs.2
  have T : ∀ m, wX_feed_29 post (m + 4) (nI e) nc cp iz pl (nI c) hl (Int64.ofInt (dq_D q k v)) sc a1 a2 a3 a4 a5 a6 a7 a8 a9 a10 (upd (upd a11 0 (a11 20)) 2 (Int32.ofInt v)) := by
    intro m
    refine dq_tail (by omega) ec s1 s2 s3 (by omega) (by omega) pk_us (H _ ?_ ?_ ?_ ?_)
    · rw [pk_un (by decide), pk_un (by decide), pk_un (by decide), pk_us]
    · rw [pk_un (by decide), pk_us]
    · rw [pk_un (by decide), pk_un (by decide), pk_us]
    · rw [pk_us]
  refine ⟨10, ?_⟩
  refine dq_f0 (i := 0) (by omega) (by omega) o0 c0 (by omega) rfl ?_
  refine dq_f2 (by omega) (by omega) o1 c1 (by omega) (Int32.toInt32_toInt64 _) ?_
  refine dq_f0 (w := Int64.ofInt v) (by omega) (by omega) o2 c2 (by omega) ?_ ?_
  · rw [pk_un (by decide), h41]
    exact dq_il (by omega) (by omega)
  refine dq_f2 (by omega) (by omega) o3 c3 (by omega) (dq_li v) ?_
  have hq4 : q = 6 ∨ q = 7 ∨ q = 8 ∨ q = 9 := by omega
  rcases hq4 with rfl | rfl | rfl | rfl
  · refine dq_f6 (by omega) (by omega) o4 c4 (by omega) ?_
    rw [Int64.neg_ofInt]
    rcases hs with ⟨_, rfl, o5, c5⟩ | hs
    · refine dq_f12 (by omega) (by omega) o5 c5 (by omega) rfl (by omega) (by omega) ?_
      exact T 0
    · exact absurd hs.1 (by decide)
  · refine dq_f7 (w := Int64.ofInt (if 0 ≤ v then v else -v)) (by omega) (by omega) o4 c4 (by omega) ?_ ?_
    · have z0 : (0 : Int64).toInt = 0 := by decide
      by_cases z : 0 ≤ v
      · rw [if_pos z, if_pos (by rw [Int64.le_iff_toInt_le, z0, dq_l (by omega) (by omega)]; exact z)]
      · rw [if_neg z, if_neg (by rw [Int64.le_iff_toInt_le, z0, dq_l (by omega) (by omega)]; exact z), Int64.neg_ofInt]
    have hb : -2147483648 ≤ (if 0 ≤ v then v else -v) ∧ (if 0 ≤ v then v else -v) ≤ 2147483647 := by
      by_cases z : 0 ≤ v
      · rw [if_pos z]
        omega
      · rw [if_neg z]
        omega
    rcases hs with ⟨_, rfl, o5, c5⟩ | hs
    · refine dq_f12 (by omega) (by omega) o5 c5 (by omega) rfl hb.1 hb.2 ?_
      exact T 0
    · exact absurd hs.1 (by decide)
  · refine dq_f8 (w := Int64.ofInt (v * ((2 ^ k : Nat) : Int))) (by omega) (by omega) o4 c4 (by omega) ?_ ?_
    · show Int64.ofInt v <<< ((a9 4).toInt64 &&& 63) = _
      rw [n4 (by omega)]
      exact dq_shl64 hk v
    have hb := dq_mul (dq_pw hk).1 (dq_pw hk).2 v1 v2
    rcases hs with ⟨_, rfl, o5, c5⟩ | hs
    · refine dq_f12 (by omega) (by omega) o5 c5 (by omega) rfl hb.1 hb.2 ?_
      exact T 0
    · exact absurd hs.1 (by decide)
  · refine dq_f9 (w := Int64.ofInt (v / ((2 ^ k : Nat) : Int))) (by omega) (by omega) o4 c4 (by omega) ?_ ?_
    · show Int64.ofInt v >>> ((a9 4).toInt64 &&& 63) = _
      rw [n4 (by omega)]
      exact dq_shr64 hk v1 v2
    rcases hs with hs | ⟨_, rfl⟩
    · exact absurd rfl hs.1
    · exact T 1
end
end
section
/-! The order: node 2 (the input) first, then node 1. -/
section
variable {q : Nat} {cp iz pl ce hl sc : Int32} {acc : Int64} {a1 a2 a3 a4 a5 a6 a7 a8 a9 a10 a11 : Nat → Int32}
/-- the three nodes' kinds -/
abbrev dq_K (q : Nat) (a1 : Nat → Int32) : Prop := a1 0 = 2 ∧ a1 1 = nI q ∧ a1 2 = 0
theorem dq_n2 : ∀ q, 6 ≤ q → q ≤ 9 → ¬ nI q = 2 ∧ ¬ nI q < 3 ∧ ¬ 9 < nI q ∧ 5 < nI q ∧ ¬ nI q = 10 ∧ ¬ nI q = 0 ∧ ¬ nI q = 1 := by
  intro q h h'
  have e : q = 6 ∨ q = 7 ∨ q = 8 ∨ q = 9 := by omega
  rcases e with rfl | rfl | rfl | rfl <;> decide
theorem dq_m0 : ∀ j, j < 20 → (0 : Int32) &&& (((1 : Int32) <<< (nI j &&& 31)) ^^^ (-1)) = 0 := by decide +kernel
theorem dq_m4 : ∀ j, j < 20 → j ≠ 2 → (4 : Int32) &&& (((1 : Int32) <<< (nI j &&& 31)) ^^^ (-1)) = 4 := by decide +kernel
/-- the loop that strikes the delays and what is no node out of a set: it leaves the sets {} and {2} -/
theorem dq_n98 {post : Int32 → Prop} {x : Int32} (hq : 6 ≤ q) (hq' : q ≤ 9) (hK : dq_K q a1) (hx : ∀ j, j < 20 → j ≠ 2 → x &&& (((1 : Int32) <<< (nI j &&& 31)) ^^^ (-1)) = x) (H : post x) : ∃ fu, wX_namedBy_98 post (nI 3) cp iz pl ce hl acc sc a1 a2 a3 a4 a5 a6 a7 a8 a9 a10 a11 fu x 0 := by
  obtain ⟨k0, k1, k2⟩ := hK
  have hn := dq_n2 q hq hq'
  refine pk_loop (σ := Unit) (fun n i _ => wX_namedBy_98 post (nI 3) cp iz pl ce hl acc sc a1 a2 a3 a4 a5 a6 a7 a8 a9 a10 a11 n x (nI i)) (fun _ _ => True) 20 0 () (by omega) trivial (fun n _ _ => ?_) (fun n i _ hi _ hw => ?_)
  · exact pk_le 20 20 (fun _ => H) (fun z => absurd z (by omega))
  · have e : (nI i).toNatClampNeg = i := nI_clamp (by omega)
    refine pk_le 20 i (fun z => absurd z (by omega)) (fun _ => pk_le 3 i (fun z => ?_) (fun z => ⟨pk_in i 20 hi, ?_⟩))
    · exact nm_r (hx i hi (by omega)) (nm_r (nI_1 i) (hw () trivial))
    · rw [e]
      have hi3 : i = 0 ∨ i = 1 ∨ i = 2 := by omega
      rcases hi3 with rfl | rfl | rfl
      · exact br_t k0 (nm_r (hx 0 hi (by omega)) (nm_r (nI_1 0) (hw () trivial)))
      · exact br_f (by rw [k1]; exact hn.1) (nm_r (nI_1 1) (hw () trivial))
      · exact br_f (by rw [k2]; decide) (nm_r (nI_1 2) (hw () trivial))
/-- node 1 names node 2 -/
theorem dq_nb1 {post : Int32 → Prop} (hq : 6 ≤ q) (hq' : q ≤ 9) (hK : dq_K q a1) (h2 : a2 1 = 2) (H : post 4) : wpX_namedBy post (nI 3, cp, iz, pl, ce, hl, acc, sc, a1, a2, a3, a4, a5, a6, a7, a8, a9, a10, a11) (nI 1) := by
  have hn := dq_n2 q hq hq'
  refine And.intro (pk_in 1 20 (by omega)) (nm_r (e' := nI q) ?_ ?_)
  · rw [nI_clamp (by omega)]
    exact hK.2.1
  refine br_f hn.2.1 (br_f hn.2.2.1 ⟨pk_in 1 20 (by omega), nm_r (e' := 4) ?_ ?_⟩)
  · rw [nI_clamp (by omega), h2]
    decide
  exact br_f hn.2.1 (br_t hn.2.2.2.1 (br_f hn.2.2.2.2.1 (dq_n98 hq hq' hK dq_m4 H)))
/-- node 2 names nothing -/
theorem dq_nb2 {post : Int32 → Prop} (hq : 6 ≤ q) (hq' : q ≤ 9) (hK : dq_K q a1) (H : post 0) : wpX_namedBy post (nI 3, cp, iz, pl, ce, hl, acc, sc, a1, a2, a3, a4, a5, a6, a7, a8, a9, a10, a11) (nI 2) := by
  refine And.intro (pk_in 2 20 (by omega)) (nm_r (e' := 0) ?_ ?_)
  · rw [nI_clamp (by omega)]
    exact hK.2.2
  exact br_t (by decide) (br_t (by decide) (br_f (by decide) (dq_n98 hq hq' hK (fun j hj _ => dq_m0 j hj) H)))
end
section
variable {post : Int32 → St2 → Prop} {J : Int32 → Int32 → Int32 → (Nat → Int32) → (Nat → Int32) → (Nat → Int32) → (Nat → Int32) → (Nat → Int32) → (Nat → Int32) → (Nat → Int32) → (Nat → Int32) → (Nat → Int32) → (Nat → Int32) → (Nat → Int32) → Prop} {q n : Nat} {x1 x2 x3 cp iz pl ce hl sc : Int32} {acc : Int64} {a1 a2 a3 a4 a5 a6 a7 a8 a9 a10 a11 : Nat → Int32}
/-- a round's end -/
theorem dq_o3 (H : J x1 (x3 + 1) pl a1 a2 a3 a4 a5 a6 a7 a8 a9 a10 a11) : wX_orderNodes_51 post J x2 x3 (nI 3) cp iz ce hl acc sc (n + 1) x1 (nI 3) pl a1 a2 a3 a4 a5 a6 a7 a8 a9 a10 a11 :=
  br_t (by decide) (nm_e H)
/-- node 0 is a delay -/
theorem dq_o0 (hK : dq_K q a1) (H : wX_orderNodes_51 post J x2 x3 (nI 3) cp iz ce hl acc sc n x1 (nI 1) pl a1 a2 a3 a4 a5 a6 a7 a8 a9 a10 a11) : wX_orderNodes_51 post J x2 x3 (nI 3) cp iz ce hl acc sc (n + 1) x1 (nI 0) pl a1 a2 a3 a4 a5 a6 a7 a8 a9 a10 a11 := by
  refine br_f (by decide) ⟨pk_in 0 20 (by omega), br_t ?_ (nm_r (nI_1 0) H)⟩
  rw [nI_clamp (by omega)]
  exact hK.1
/-- node i is placed already -/
theorem dq_od {i : Nat} (hi : i < 3) (hk : ¬ a1 i = 2) (hb : ¬ ((x1 >>> (nI i &&& 31)) &&& 1) = 0) (H : wX_orderNodes_51 post J x2 x3 (nI 3) cp iz ce hl acc sc n x1 (nI (i + 1)) pl a1 a2 a3 a4 a5 a6 a7 a8 a9 a10 a11) : wX_orderNodes_51 post J x2 x3 (nI 3) cp iz ce hl acc sc (n + 1) x1 (nI i) pl a1 a2 a3 a4 a5 a6 a7 a8 a9 a10 a11 := by
  refine br_f (nI_ge hi (by omega)) ⟨pk_in i 20 (by omega), br_f ?_ (br_f hb (nm_r (nI_1 i) H))⟩
  rw [nI_clamp (by omega)]
  exact hk
/-- node i waits -/
theorem dq_ow {i : Nat} {r : Int32} (hi : i < 3) (hk : ¬ a1 i = 2) (hb : ((x1 >>> (nI i &&& 31)) &&& 1) = 0) (hr : ∀ P : Int32 → Prop, P r → wpX_namedBy P (nI 3, cp, iz, pl, ce, hl, acc, sc, a1, a2, a3, a4, a5, a6, a7, a8, a9, a10, a11) (nI i)) (hw : ¬ (r &&& (x1 ^^^ (-1))) = 0) (H : wX_orderNodes_51 post J x2 x3 (nI 3) cp iz ce hl acc sc n x1 (nI (i + 1)) pl a1 a2 a3 a4 a5 a6 a7 a8 a9 a10 a11) : wX_orderNodes_51 post J x2 x3 (nI 3) cp iz ce hl acc sc (n + 1) x1 (nI i) pl a1 a2 a3 a4 a5 a6 a7 a8 a9 a10 a11 := by
  refine br_f (nI_ge hi (by omega)) ⟨pk_in i 20 (by omega), br_f ?_ (br_t hb (hr _ (br_f hw (nm_r (nI_1 i) H))))⟩
  rw [nI_clamp (by omega)]
  exact hk
/-- node i is placed, at place p -/
theorem dq_op {i p : Nat} {r y : Int32} (hi : i < 3) (hp : p < 20) (hk : ¬ a1 i = 2) (hb : ((x1 >>> (nI i &&& 31)) &&& 1) = 0) (hr : ∀ P : Int32 → Prop, P r → wpX_namedBy P (nI 3, cp, iz, nI p, ce, hl, acc, sc, a1, a2, a3, a4, a5, a6, a7, a8, a9, a10, a11) (nI i)) (hw : (r &&& (x1 ^^^ (-1))) = 0) (hy : x1 ||| ((1 : Int32) <<< (nI i &&& 31)) = y) (h8 : (nI i).toInt8.toInt32 = nI i) (H : wX_orderNodes_51 post J x2 x3 (nI 3) cp iz ce hl acc sc n y (nI (i + 1)) (nI (p + 1)) a1 a2 a3 a4 a5 a6 (upd a7 p (nI i)) a8 a9 a10 a11) : wX_orderNodes_51 post J x2 x3 (nI 3) cp iz ce hl acc sc (n + 1) x1 (nI i) (nI p) a1 a2 a3 a4 a5 a6 a7 a8 a9 a10 a11 := by
  refine br_f (nI_ge hi (by omega)) ⟨pk_in i 20 (by omega), br_f ?_ (br_t hb (hr _ (br_t hw (nm_r hy ⟨pk_in p 20 hp, nm_r (e' := upd a7 p (nI i)) ?_ (nm_r (nI_1 p) (nm_r (nI_1 i) H))⟩))))⟩
  · rw [nI_clamp (by omega)]
    exact hk
  · rw [nI_clamp (by omega), h8]
end
section
variable {post : Int32 → St2 → Prop} {q : Nat} {cp iz pl ce hl sc : Int32} {acc : Int64} {a1 a2 a3 a4 a5 a6 a7 a8 a9 a10 a11 : Nat → Int32}
/-- the three rounds -/
theorem dq_order (hq : 6 ≤ q) (hq' : q ≤ 9) (hK : dq_K q a1) (h2 : a2 1 = 2) (H : post 1 (nI 3, cp, iz, nI 2, ce, hl, acc, sc, a1, a2, a3, a4, a5, a6, upd (upd a7 0 (nI 2)) 1 (nI 1), a8, a9, a10, a11)) : wpX_orderNodes post (nI 3, cp, iz, pl, ce, hl, acc, sc, a1, a2, a3, a4, a5, a6, a7, a8, a9, a10, a11) := by
  have hn := dq_n2 q hq hq'
  have k0 : a1 (nI 0).toNatClampNeg = 2 := by
    rw [nI_clamp (by omega)]
    exact hK.1
  have n1 : ¬ a1 1 = 2 := by
    rw [hK.2.1]
    exact hn.1
  have n2 : ¬ a1 2 = 2 := by
    rw [hK.2.2]
    decide
  have k1 : ¬ a1 (nI 1).toNatClampNeg = 2 := by
    rw [nI_clamp (by omega)]
    exact n1
  have k2 : ¬ a1 (nI 2).toNatClampNeg = 2 := by
    rw [nI_clamp (by omega)]
    exact n2
  refine Exists.intro 4 ?_
  refine br_f (by decide) ⟨pk_in 0 20 (by omega), br_t k0 (nm_r (e' := nI 1) (by decide) (nm_r (nI_1 0) ?_))⟩
  refine br_f (by decide) ⟨pk_in 1 20 (by omega), br_f k1 (nm_r (nI_1 1) ?_)⟩
  refine br_f (by decide) ⟨pk_in 2 20 (by omega), br_f k2 (nm_r (nI_1 2) ?_)⟩
  refine br_t (by decide) ⟨4, ?_⟩
  -- round 0
  refine br_f (by decide) ⟨4, dq_o0 hK ?_⟩
  refine dq_ow (i := 1) (r := 4) (by omega) n1 (by decide) (fun P hP => dq_nb1 hq hq' hK h2 hP) (by decide) ?_
  refine dq_op (i := 2) (p := 0) (r := 0) (y := 4) (by omega) (by omega) n2 (by decide) (fun P hP => dq_nb2 hq hq' hK hP) (by decide) (by decide) (by decide) ?_
  refine dq_o3 ?_
  -- round 1
  refine br_f (by decide) ⟨4, dq_o0 hK ?_⟩
  refine dq_op (i := 1) (p := 1) (r := 4) (y := 6) (by omega) (by omega) n1 (by decide) (fun P hP => dq_nb1 hq hq' hK h2 hP) (by decide) (by decide) (by decide) ?_
  refine dq_od (i := 2) (by omega) n2 (by decide) ?_
  refine dq_o3 ?_
  -- round 2
  refine br_f (by decide) ⟨4, dq_o0 hK ?_⟩
  refine dq_od (i := 1) (by omega) n1 (by decide) ?_
  refine dq_od (i := 2) (by omega) n2 (by decide) ?_
  refine dq_o3 ?_
  exact br_t (by decide) (br_t (by decide) H)
end
end
section
/-! The compiler. -/
section
variable {post : St2 → Prop} {n : Nat} {x y z x' y' : Int32} {cp iz pl hl sc : Int32} {acc : Int64} {a1 a2 a3 a4 a5 a6 a7 a8 a9 a10 a11 : Nat → Int32}
theorem dq_write (hn : n < 300) (hx : x.toInt8.toInt32 = x') (hy : y.toInt8.toInt32 = y') (H : post ((nI 3), cp, iz, pl, nI (n + 1), -1, acc, sc, a1, a2, a3, a4, a5, a6, a7, (upd a8 n x'), (upd a9 n z), (upd a10 n y'), a11)) : wpX_write post ((nI 3), cp, iz, pl, (nI n), hl, acc, sc, a1, a2, a3, a4, a5, a6, a7, a8, a9, a10, a11) x y z := by
  have b := pk_in n 300 hn
  have e : (nI n).toNatClampNeg = n := nI_clamp (by omega)
  refine And.intro b (nm_r (e' := upd a8 n x') ?_ ⟨b, nm_r (e' := upd a10 n y') ?_ ⟨b, nm_r (e' := upd a9 n z) ?_ (nm_r (nI_1 n) H)⟩⟩)
  · rw [e, hx]
  · rw [e, hy]
  · rw [e]
/-- a load that is left out -/
theorem dq_held (hl' : hl = x) (H : post ((nI 3), cp, iz, pl, (nI n), hl, acc, sc, a1, a2, a3, a4, a5, a6, a7, a8, a9, a10, a11)) : wpX_load post ((nI 3), cp, iz, pl, (nI n), hl, acc, sc, a1, a2, a3, a4, a5, a6, a7, a8, a9, a10, a11) x := br_t hl' H
theorem dq_load (hn : n < 300) (hl' : ¬ hl = x) (hx : x.toInt8.toInt32 = x') (H : post ((nI 3), cp, iz, pl, nI (n + 1), -1, acc, sc, a1, a2, a3, a4, a5, a6, a7, (upd a8 n 0), (upd a9 n 0), (upd a10 n x'), a11)) : wpX_load post ((nI 3), cp, iz, pl, (nI n), hl, acc, sc, a1, a2, a3, a4, a5, a6, a7, a8, a9, a10, a11) x :=
  br_f hl' (dq_write (x' := 0) hn (by decide) hx H)
theorem dq_store (hn : n < 300) (hx : x.toInt8.toInt32 = x') (H : post ((nI 3), cp, iz, pl, nI (n + 1), x, acc, sc, a1, a2, a3, a4, a5, a6, a7, (upd a8 n 2), (upd a9 n 0), (upd a10 n x'), a11)) : wpX_store post ((nI 3), cp, iz, pl, (nI n), hl, acc, sc, a1, a2, a3, a4, a5, a6, a7, a8, a9, a10, a11) x := by
  unfold wpX_store
  exact dq_write (x' := 2) hn (by decide) hx H
theorem dq_copy (hn : n + 1 < 300) (hl' : ¬ hl = x) (hx : x.toInt8.toInt32 = x') (hy : y.toInt8.toInt32 = y') (H : post ((nI 3), cp, iz, pl, nI (n + 1 + 1), y, acc, sc, a1, a2, a3, a4, a5, a6, a7, (upd (upd a8 n 0) (n + 1) 2), (upd (upd a9 n 0) (n + 1) 0), (upd (upd a10 n x') (n + 1) y'), a11)) : wpX_copy post ((nI 3), cp, iz, pl, (nI n), hl, acc, sc, a1, a2, a3, a4, a5, a6, a7, a8, a9, a10, a11) x y := by
  unfold wpX_copy
  refine dq_load (by omega) hl' hx ?_
  exact dq_store hn hy H
/-- node 2, the input -/
theorem dq_cn2 (hn : n + 1 < 300) (hl' : ¬ hl = 41) (h : a1 2 = 0) (H : post ((nI 3), cp, iz, pl, nI (n + 1 + 1), (nI 2), acc, sc, a1, a2, a3, a4, a5, a6, a7, (upd (upd a8 n 0) (n + 1) 2), (upd (upd a9 n 0) (n + 1) 0), (upd (upd a10 n 41) (n + 1) 2), a11)) : wpX_compileNode post ((nI 3), cp, iz, pl, (nI n), hl, acc, sc, a1, a2, a3, a4, a5, a6, a7, a8, a9, a10, a11) (nI 2) := by
  refine And.intro (pk_in 2 20 (by omega)) (nm_r (e' := 0) ?_ (br_t rfl ?_))
  · rw [nI_clamp (by omega)]
    exact h
  · refine dq_load (x' := 41) (by omega) hl' (by decide) ?_
    exact dq_store (x' := 2) hn (by decide) H
/-- node 1: its operation stands at n; the input's value is still held -/
theorem dq_cn6 (hn : n + 2 < 300) (h : a1 1 = nI 6) (h2 : a2 1 = 2) (H : post ((nI 3), cp, iz, pl, nI (n + 1 + 1 + 1), (nI 1), acc, sc, a1, a2, a3, a4, a5, a6, a7, (upd (upd (upd a8 n 6) (n + 1) 12) (n + 1 + 1) 2), (upd (upd (upd a9 n 0) (n + 1) 0) (n + 1 + 1) 0), (upd (upd (upd a10 n 40) (n + 1) 40) (n + 1 + 1) 1), a11)) : wpX_compileNode post ((nI 3), cp, iz, pl, (nI n), (nI 2), acc, sc, a1, a2, a3, a4, a5, a6, a7, a8, a9, a10, a11) (nI 1) := by
  have e1 : (nI 1).toNatClampNeg = 1 := nI_clamp (by omega)
  have b := pk_in (x := nI 1) 1 20 (by omega)
  refine And.intro b (nm_r (e' := nI 6) (by rw [e1]; exact h) (br_f (by decide) (br_f (by decide) (br_f (by decide) (br_t (by decide) ?_)))))
  refine And.intro b (nm_r (e' := nI 6) (by rw [e1]; exact h) ⟨b, ?_⟩)
  rw [e1, h2]
  refine br_f (by decide) (dq_held rfl ?_)
  refine br_t (by decide) (dq_write (x' := 6) (y' := 40) (by omega) (by decide) (by decide) ?_)
  refine br_f (by decide) (dq_write (x' := 12) (y' := 40) (by omega) (by decide) (by decide) ?_)
  exact dq_store (x' := 1) (by omega) (by decide) H
theorem dq_cn7 (hn : n + 2 < 300) (h : a1 1 = nI 7) (h2 : a2 1 = 2) (H : post ((nI 3), cp, iz, pl, nI (n + 1 + 1 + 1), (nI 1), acc, sc, a1, a2, a3, a4, a5, a6, a7, (upd (upd (upd a8 n 7) (n + 1) 12) (n + 1 + 1) 2), (upd (upd (upd a9 n 0) (n + 1) 0) (n + 1 + 1) 0), (upd (upd (upd a10 n 40) (n + 1) 40) (n + 1 + 1) 1), a11)) : wpX_compileNode post ((nI 3), cp, iz, pl, (nI n), (nI 2), acc, sc, a1, a2, a3, a4, a5, a6, a7, a8, a9, a10, a11) (nI 1) := by
  have e1 : (nI 1).toNatClampNeg = 1 := nI_clamp (by omega)
  have b := pk_in (x := nI 1) 1 20 (by omega)
  refine And.intro b (nm_r (e' := nI 7) (by rw [e1]; exact h) (br_f (by decide) (br_f (by decide) (br_f (by decide) (br_t (by decide) ?_)))))
  refine And.intro b (nm_r (e' := nI 7) (by rw [e1]; exact h) ⟨b, ?_⟩)
  rw [e1, h2]
  refine br_f (by decide) (dq_held rfl ?_)
  refine br_f (by decide) (br_t (by decide) (dq_write (x' := 7) (y' := 40) (by omega) (by decide) (by decide) ?_))
  refine br_f (by decide) (dq_write (x' := 12) (y' := 40) (by omega) (by decide) (by decide) ?_)
  exact dq_store (x' := 1) (by omega) (by decide) H
theorem dq_cn8 (hn : n + 2 < 300) (h : a1 1 = nI 8) (h2 : a2 1 = 2) (H : post ((nI 3), cp, iz, pl, nI (n + 1 + 1 + 1), (nI 1), acc, sc, a1, a2, a3, a4, a5, a6, a7, (upd (upd (upd a8 n 8) (n + 1) 12) (n + 1 + 1) 2), (upd (upd (upd a9 n (a3 1)) (n + 1) 0) (n + 1 + 1) 0), (upd (upd (upd a10 n 40) (n + 1) 40) (n + 1 + 1) 1), a11)) : wpX_compileNode post ((nI 3), cp, iz, pl, (nI n), (nI 2), acc, sc, a1, a2, a3, a4, a5, a6, a7, a8, a9, a10, a11) (nI 1) := by
  have e1 : (nI 1).toNatClampNeg = 1 := nI_clamp (by omega)
  have b := pk_in (x := nI 1) 1 20 (by omega)
  refine And.intro b (nm_r (e' := nI 8) (by rw [e1]; exact h) (br_f (by decide) (br_f (by decide) (br_f (by decide) (br_t (by decide) ?_)))))
  refine And.intro b (nm_r (e' := nI 8) (by rw [e1]; exact h) ⟨b, ?_⟩)
  rw [e1, h2]
  refine br_f (by decide) (dq_held rfl ?_)
  refine br_f (by decide) (br_f (by decide) (br_t (by decide) (And.intro b ?_)))
  rw [e1]
  refine dq_write (x' := 8) (y' := 40) (by omega) (by decide) (by decide) ?_
  refine br_f (by decide) (dq_write (x' := 12) (y' := 40) (by omega) (by decide) (by decide) ?_)
  exact dq_store (x' := 1) (by omega) (by decide) H
theorem dq_cn9 (hn : n + 2 < 300) (h : a1 1 = nI 9) (h2 : a2 1 = 2) (H : post ((nI 3), cp, iz, pl, nI (n + 1 + 1), (nI 1), acc, sc, a1, a2, a3, a4, a5, a6, a7, (upd (upd a8 n 9) (n + 1) 2), (upd (upd a9 n (a3 1)) (n + 1) 0), (upd (upd a10 n 40) (n + 1) 1), a11)) : wpX_compileNode post ((nI 3), cp, iz, pl, (nI n), (nI 2), acc, sc, a1, a2, a3, a4, a5, a6, a7, a8, a9, a10, a11) (nI 1) := by
  have e1 : (nI 1).toNatClampNeg = 1 := nI_clamp (by omega)
  have b := pk_in (x := nI 1) 1 20 (by omega)
  refine And.intro b (nm_r (e' := nI 9) (by rw [e1]; exact h) (br_f (by decide) (br_f (by decide) (br_f (by decide) (br_t (by decide) ?_)))))
  refine And.intro b (nm_r (e' := nI 9) (by rw [e1]; exact h) ⟨b, ?_⟩)
  rw [e1, h2]
  refine br_f (by decide) (dq_held rfl ?_)
  refine br_f (by decide) (br_f (by decide) (br_f (by decide) (And.intro b ?_)))
  rw [e1]
  refine dq_write (x' := 9) (y' := 40) (by omega) (by decide) (by decide) ?_
  refine br_t (by decide) ?_
  exact dq_store (x' := 1) (by omega) (by decide) H
end
section
variable {post : St2 → Prop} {q k : Nat} {iz pl ce hl sc : Int32} {acc : Int64} {a1 a2 a3 a4 a5 a6 a7 a8 a9 a10 a11 : Nat → Int32}
/-- behind the nodes: the delay keeps node 2's value -/
theorem dq_c102 {n : Nat} (hn : n + 1 < 300) (hq : 6 ≤ q) (hq' : q ≤ 9) (hK : dq_K q a1) (t0 : a2 0 = 2) (t1 : a2 1 = 2) (t2 : a2 2 = 0) (hl' : ¬ hl = 2) (H : post ((nI 3), 1, 1, nI 2, nI (n + 1 + 1), (nI 20), acc, sc, a1, a2, a3, a4, a5, a6, a7, (upd (upd a8 n 0) (n + 1) 2), (upd (upd a9 n 0) (n + 1) 0), (upd (upd a10 n (nI 2)) (n + 1) (nI 20)), a11)) : wX_compile_102 post 4 (nI 0) (nI 3) 1 1 (nI 2) (nI n) hl acc sc a1 a2 a3 a4 a5 a6 a7 a8 a9 a10 a11 := by
  have hn' := dq_n2 q hq hq'
  obtain ⟨k0, k1, k2⟩ := hK
  have e0 : (nI 0).toNatClampNeg = 0 := nI_clamp (by omega)
  have e1 : (nI 1).toNatClampNeg = 1 := nI_clamp (by omega)
  have e2 : (nI 2).toNatClampNeg = 2 := nI_clamp (by omega)
  have d0 : a1 (nI 0).toNatClampNeg = 2 := by rw [e0, k0]
  have d1 : ¬ a1 (nI 1).toNatClampNeg = 2 := by
    rw [e1, k1]
    exact hn'.1
  have d2 : ¬ a1 (nI 2).toNatClampNeg = 2 := by
    rw [e2, k2]
    decide
  refine br_f (by decide) ⟨pk_in 0 20 (by omega), ?_⟩
  rw [e0, t0]
  refine br_f (by decide) ⟨pk_in 0 20 (by omega), br_t k0 ?_⟩
  refine dq_copy (y' := nI 20) hn hl' (x' := nI 2) (by decide) (by decide) (nm_r (nI_1 0) ?_)
  refine br_f (by decide) ⟨pk_in 1 20 (by omega), ?_⟩
  rw [show (nI (0 + 1)).toNatClampNeg = 1 from e1, t1]
  refine br_f (by decide) ⟨pk_in 1 20 (by omega), br_f (by rw [k1]; exact hn'.1) (nm_r (nI_1 1) ?_)⟩
  refine br_f (by decide) ⟨pk_in 2 20 (by omega), ?_⟩
  rw [show (nI (1 + 1)).toNatClampNeg = 2 from e2, t2]
  refine br_f (by decide) ⟨pk_in 2 20 (by omega), br_f (by rw [k2]; decide) (nm_r (nI_1 2) ?_)⟩
  exact br_t (by decide) H
/-- the nodes in their order, and what stands behind them -/
theorem dq_c76 (hq : 6 ≤ q) (hq' : q ≤ 9) (hK : dq_K q a1) (t0 : a2 0 = 2) (t1 : a2 1 = 2) (t2 : a2 2 = 0) (t3 : a3 1 = nI k) (g0 : a7 0 = nI 2) (g1 : a7 1 = nI 1) (hl' : ¬ hl = 41) (f0 : a8 0 = 0 ∧ a10 0 = nI 20) (f1 : a8 1 = 2 ∧ a10 1 = nI 0) (H : ∀ (e c : Nat) (hl' : Int32) (b8 b9 b10 : Nat → Int32), dq_code q k e c b8 b9 b10 → post ((nI 3), 1, 1, nI 2, nI c, hl', acc, sc, a1, a2, a3, a4, a5, a6, a7, b8, b9, b10, a11)) : wX_compile_76 post 3 (nI 0) (nI 3) 1 1 (nI 2) (nI 2) hl acc sc a1 a2 a3 a4 a5 a6 a7 a8 a9 a10 a11 := by
  have e0 : (nI 0).toNatClampNeg = 0 := nI_clamp (by omega)
  have e1 : (nI 1).toNatClampNeg = 1 := nI_clamp (by omega)
  refine br_f (by decide) ⟨pk_in 0 20 (by omega), ?_⟩
  rw [e0, g0]
  refine dq_cn2 (n := 2) (by omega) hl' hK.2.2 (nm_r (nI_1 0) ?_)
  refine br_f (by decide) ⟨pk_in 1 20 (by omega), ?_⟩
  rw [show (nI (0 + 1)).toNatClampNeg = 1 from e1, g1]
  have hq4 : q = 6 ∨ q = 7 ∨ q = 8 ∨ q = 9 := by omega
  rcases hq4 with rfl | rfl | rfl | rfl
  · refine dq_cn6 (n := 4) (by omega) hK.2.1 t1 (nm_r (nI_1 1) (br_t (by decide) ⟨4, ?_⟩))
    refine dq_c102 (n := 4 + 1 + 1 + 1) (by omega) hq hq' hK t0 t1 t2 (by decide) (H 6 9 _ _ _ _ ?_)
    unfold dq_code
    refine ⟨f0, f1, ⟨rfl, rfl⟩, ⟨rfl, rfl⟩, ⟨rfl, rfl⟩, ?_, ?_, ⟨rfl, rfl⟩, ⟨rfl, rfl⟩, ⟨rfl, rfl⟩, rfl⟩
    · exact fun h => absurd h (by decide)
    · exact Or.inl ⟨by decide, rfl, rfl, rfl⟩
  · refine dq_cn7 (n := 4) (by omega) hK.2.1 t1 (nm_r (nI_1 1) (br_t (by decide) ⟨4, ?_⟩))
    refine dq_c102 (n := 4 + 1 + 1 + 1) (by omega) hq hq' hK t0 t1 t2 (by decide) (H 6 9 _ _ _ _ ?_)
    unfold dq_code
    refine ⟨f0, f1, ⟨rfl, rfl⟩, ⟨rfl, rfl⟩, ⟨rfl, rfl⟩, ?_, ?_, ⟨rfl, rfl⟩, ⟨rfl, rfl⟩, ⟨rfl, rfl⟩, rfl⟩
    · exact fun h => absurd h (by decide)
    · exact Or.inl ⟨by decide, rfl, rfl, rfl⟩
  · refine dq_cn8 (n := 4) (by omega) hK.2.1 t1 (nm_r (nI_1 1) (br_t (by decide) ⟨4, ?_⟩))
    refine dq_c102 (n := 4 + 1 + 1 + 1) (by omega) hq hq' hK t0 t1 t2 (by decide) (H 6 9 _ _ _ _ ?_)
    unfold dq_code
    refine ⟨f0, f1, ⟨rfl, rfl⟩, ⟨rfl, rfl⟩, ⟨rfl, rfl⟩, ?_, ?_, ⟨rfl, rfl⟩, ⟨rfl, rfl⟩, ⟨rfl, rfl⟩, rfl⟩
    · exact fun _ => t3
    · exact Or.inl ⟨by decide, rfl, rfl, rfl⟩
  · refine dq_cn9 (n := 4) (by omega) hK.2.1 t1 (nm_r (nI_1 1) (br_t (by decide) ⟨4, ?_⟩))
    refine dq_c102 (n := 4 + 1 + 1) (by omega) hq hq' hK t0 t1 t2 (by decide) (H 5 8 _ _ _ _ ?_)
    unfold dq_code
    refine ⟨f0, f1, ⟨rfl, rfl⟩, ⟨rfl, rfl⟩, ⟨rfl, rfl⟩, ?_, ?_, ⟨rfl, rfl⟩, ⟨rfl, rfl⟩, ⟨rfl, rfl⟩, rfl⟩
    · exact fun _ => t3
    · exact Or.inr ⟨rfl, rfl⟩
theorem dq_compile (hq : 6 ≤ q) (hq' : q ≤ 9) (hK : dq_K q a1) (t0 : a2 0 = 2) (t1 : a2 1 = 2) (t2 : a2 2 = 0) (t3 : a3 1 = nI k) (H : ∀ (e c : Nat) (hl' : Int32) (b8 b9 b10 : Nat → Int32), dq_code q k e c b8 b9 b10 → post ((nI 3), 1, 1, nI 2, nI c, hl', acc, sc, a1, a2, a3, a4, a5, a6, upd (upd a7 0 (nI 2)) 1 (nI 1), b8, b9, b10, a11)) : wpX_compile post ((nI 3), 0, iz, pl, ce, hl, acc, sc, a1, a2, a3, a4, a5, a6, a7, a8, a9, a10, a11) := by
  refine br_t rfl (dq_order hq hq' hK t1 ⟨by first | rfl | decide, by first | rfl | decide, br_f (by decide) ⟨4, ?_⟩⟩)
  have hK' := hK
  have hn' := dq_n2 q hq hq'
  obtain ⟨k0, k1, k2⟩ := hK
  have e0 : (nI 0).toNatClampNeg = 0 := nI_clamp (by omega)
  have e1 : (nI 1).toNatClampNeg = 1 := nI_clamp (by omega)
  have e2 : (nI 2).toNatClampNeg = 2 := nI_clamp (by omega)
  have d0 : a1 (nI 0).toNatClampNeg = 2 := by rw [e0, k0]
  have d1 : ¬ a1 (nI 1).toNatClampNeg = 2 := by
    rw [e1, k1]
    exact hn'.1
  have d2 : ¬ a1 (nI 2).toNatClampNeg = 2 := by
    rw [e2, k2]
    decide
  refine br_f (by decide) ⟨pk_in 0 20 (by omega), br_t d0 (dq_copy (n := 0) (x' := nI 20) (y' := nI 0) (by omega) (by decide) (by decide) (by decide) (nm_r (nI_1 0) ?_))⟩
  refine br_f (by decide) ⟨pk_in 1 20 (by omega), br_f d1 (nm_r (nI_1 1) ?_)⟩
  refine br_f (by decide) ⟨pk_in 2 20 (by omega), br_f d2 (nm_r (nI_1 2) ?_)⟩
  refine br_t (by decide) ⟨3, ?_⟩
  exact dq_c76 hq hq' hK' t0 t1 t2 t3 rfl rfl (by decide) ⟨rfl, rfl⟩ ⟨rfl, rfl⟩ H
end
end
section
/-! restart and node: the cells stay all zero while the source is written. -/
theorem dq_z (j : Nat) : upd (fun _ => 0) j 0 = fun _ => 0 := by
  funext t
  unfold upd
  split <;> rfl
section
variable {nc cp iz pl ce hl sc : Int32} {acc : Int64} {a1 a2 a3 a4 a5 a6 a7 a8 a9 a10 : Nat → Int32}
theorem dq_restart {post : St2 → Prop} (H : post (nc, cp, iz, pl, ce, hl, acc, 0, a1, a2, a3, a4, a5, a6, a7, a8, a9, a10, fun _ => 0)) : wpX_restart post (nc, cp, iz, pl, ce, hl, acc, sc, a1, a2, a3, a4, a5, a6, a7, a8, a9, a10, fun _ => 0) := by
  unfold wpX_restart
  exact pk_loop (σ := Unit) (fun n i _ => wX_restart_2 post nc cp iz pl ce hl acc sc n (nI i) a1 a2 a3 a4 a5 a6 a7 a8 a9 a10 (fun _ => 0)) (fun _ _ => True) 42 0 () (by omega) trivial (fun n _ _ => pk_le 42 42 (fun _ => H) (fun z => absurd z (by omega))) (fun n i _ hi _ hw => pk_le 42 i (fun z => absurd z (by omega)) (fun _ => ⟨pk_in i 42 hi, nm_r (dq_z _) (nm_r (nI_1 i) (hw () trivial))⟩))
theorem dq_node {post : Int32 → St2 → Prop} {n : Nat} {p0 p1 p2 p0' p2' : Int32} (hn : n < 20) (h1 : ¬ p0 < 0) (h2 : p0 ≤ 10) (h3 : ¬ p0 = 1) (h4 : ¬ p1 < 0) (h5 : ¬ 19 < p1) (h6 : p0 < 3 ∨ 5 < p0) (h7 : ¬ p2 < 0) (h8 : p2 ≤ 7) (h9 : p2 ≤ 15) (i0 : p0.toInt8.toInt32 = p0') (i2 : p2.toInt8.toInt32 = p2') (H : post (nI n) (nI (n + 1), 0, iz, pl, ce, hl, acc, 0, upd a1 n p0', upd a2 n p1, upd a3 n p2', upd a4 n 0, a5, a6, a7, a8, a9, a10, fun _ => 0)) : wpX_node post (nI n, cp, iz, pl, ce, hl, acc, sc, a1, a2, a3, a4, a5, a6, a7, a8, a9, a10, fun _ => 0) p0 p1 p2 := by
  have e : (nI n).toNatClampNeg = n := nI_clamp (by omega)
  have b := pk_in (x := nI n) n 20 hn
  have Z : wX_node_122 post p0 p1 p2 (nI n) cp iz pl ce hl acc sc a1 a2 a3 a4 a5 a6 a7 a8 a9 a10 (fun _ => 0) := by
    refine And.intro b (nm_r (e' := upd a1 n p0') (by rw [e, i0]) ⟨b, nm_r (e' := upd a2 n p1) (by rw [e]) ⟨b, nm_r (e' := upd a3 n p2') (by rw [e, i2]) ⟨b, nm_r (e' := upd a4 n 0) (by rw [e]) (nm_r (nI_1 n) ?_)⟩⟩⟩)
    exact dq_restart H
  have Y : wX_node_104 post p0 p1 p2 (nI n) cp iz pl ce hl acc sc a1 a2 a3 a4 a5 a6 a7 a8 a9 a10 (fun _ => 0) := br_c (fun _ => br_f h7 (br_t h9 Z)) (fun _ => Z)
  have X : wX_node_86 post p0 p1 p2 (nI n) cp iz pl ce hl acc sc a1 a2 a3 a4 a5 a6 a7 a8 a9 a10 (fun _ => 0) := br_c (fun _ => br_f h7 (br_t h8 Y)) (fun _ => Y)
  have V : wX_node_66 post p0 p1 p2 (nI n) cp iz pl ce hl acc sc a1 a2 a3 a4 a5 a6 a7 a8 a9 a10 (fun _ => 0) := by
    rcases h6 with h6 | h6
    · exact br_t h6 X
    · exact br_c (fun _ => X) (fun _ => br_t h6 X)
  have U : wX_node_45 post p0 p1 p2 (nI n) cp iz pl ce hl acc sc a1 a2 a3 a4 a5 a6 a7 a8 a9 a10 (fun _ => 0) := br_c (fun _ => V) (fun _ => br_c (fun _ => V) (fun _ => br_f h4 (br_f h5 (br_f (by decide) V))))
  exact br_t (nI_lt hn (by decide)) (br_f h1 (br_t h2 (br_f h3 U)))
end
end
section
/-! feed, value; what the law holds due; the law. -/
section
variable {q k e c : Nat} {iz pl ce hl sc x : Int32} {acc : Int64} {a1 a2 a3 a4 a5 a6 a7 a8 a9 a10 a11 : Nat → Int32}
/-- feed behind compile: the code lies there -/
theorem dq_go {post : Int32 → St2 → Prop} {v : Int} (hq : 6 ≤ q) (hq' : q ≤ 9) (hk : k < 8) (hcd : dq_code q k e c a8 a9 a10) (hv : v = dq_S x.toInt) (H : ∀ a : Nat → Int32, a 0 = a11 20 → a 1 = Int32.ofInt (dq_D q k v) → a 2 = Int32.ofInt v → a 20 = Int32.ofInt v → post 1 (nI 3, 1, 1, nI 2, nI c, hl, Int64.ofInt v, sc + 1, a1, a2, a3, a4, a5, a6, a7, a8, a9, a10, a)) : wpX_saturated (fun r => ∀ b : Nat → Int32, b = upd a11 41 r.toInt32 → ∃ fu29 : Nat, wX_feed_29 post fu29 0 (nI 3) 1 1 (nI 2) (nI c) hl acc sc a1 a2 a3 a4 a5 a6 a7 a8 a9 a10 b) (nI 3, 1, 1, nI 2, nI c, hl, acc, sc, a1, a2, a3, a4, a5, a6, a7, a8, a9, a10, a11) x.toInt64 := by
  have hb := dq_S_in x.toInt
  refine dq_saturated (nm_r (e' := upd a11 41 (Int32.ofInt v)) ?_ ?_)
  · rw [Int32.toInt_toInt64, ← hv, dq_li]
  · refine dq_run (v := v) hq hq' hk hcd (by omega) (by omega) pk_us (fun a y0 y1 y2 y3 => H a ?_ y1 y2 y3)
    rw [y0, pk_un (by decide)]
/-- the first feed: it compiles -/
theorem dq_feed0 {post : Int32 → St2 → Prop} (hq : 6 ≤ q) (hq' : q ≤ 9) (hk : k < 8) (hK : dq_K q a1) (t0 : a2 0 = 2) (t1 : a2 1 = 2) (t2 : a2 2 = 0) (t3 : a3 1 = nI k) (H : ∀ (e c : Nat) (hl' : Int32) (b7 b8 b9 b10 a : Nat → Int32), dq_code q k e c b8 b9 b10 → a 0 = a11 20 → a 20 = Int32.ofInt (dq_S x.toInt) → post 1 (nI 3, 1, 1, nI 2, nI c, hl', Int64.ofInt (dq_S x.toInt), sc + 1, a1, a2, a3, a4, a5, a6, b7, b8, b9, b10, a)) : wpX_feed post (nI 3, 0, iz, pl, ce, hl, acc, sc, a1, a2, a3, a4, a5, a6, a7, a8, a9, a10, a11) x := by
  unfold wpX_feed
  refine dq_compile hq hq' hK t0 t1 t2 t3 (fun e c hl' b8 b9 b10 hcd => br_f (by decide) ?_)
  exact dq_go hq hq' hk hcd rfl (fun a y0 _ _ y3 => H e c hl' _ b8 b9 b10 a hcd y0 y3)
/-- a later feed -/
theorem dq_feed1 {post : Int32 → St2 → Prop} (hq : 6 ≤ q) (hq' : q ≤ 9) (hk : k < 8) (hcd : dq_code q k e c a8 a9 a10) (H : ∀ a : Nat → Int32, a 0 = a11 20 → a 1 = Int32.ofInt (dq_D q k (dq_S x.toInt)) → a 2 = Int32.ofInt (dq_S x.toInt) → post 1 (nI 3, 1, 1, nI 2, nI c, hl, Int64.ofInt (dq_S x.toInt), sc + 1, a1, a2, a3, a4, a5, a6, a7, a8, a9, a10, a)) : wpX_feed post (nI 3, 1, 1, nI 2, nI c, hl, acc, sc, a1, a2, a3, a4, a5, a6, a7, a8, a9, a10, a11) x := by
  unfold wpX_feed
  refine br_f (by decide) (br_f (by decide) ?_)
  exact dq_go hq hq' hk hcd rfl (fun a y0 y1 y2 _ => H a y0 y1 y2)
theorem dq_value {post : Int32 → Prop} {cp : Int32} {i : Nat} {r : Int32} (hi : i < 3) (hs : ¬ sc = 0) (hr : a11 i = r) (H : post r) : wpX_value post (nI 3, cp, iz, pl, ce, hl, acc, sc, a1, a2, a3, a4, a5, a6, a7, a8, a9, a10, a11) (nI i) := by
  refine br_f (nI_pos (by omega)) (br_f (nI_ge hi (by omega)) (br_f hs ⟨pk_in i 42 (by omega), ?_⟩))
  rw [nI_clamp (by omega), hr]
  exact H
end
section
variable {q k : Nat} {x y : Int32}
theorem dq_102 (hq : 6 ≤ q) (hq' : q ≤ 9) (hk : k < 8) : wL_lawOf_102 (fun r _ => r = 1) 378 6032 x y (nI q) (nI k) (Int32.ofInt (dq_S x.toInt)) (Int32.ofInt (dq_S y.toInt)) (Int32.ofInt (dq_D q k (dq_S y.toInt))) 0 0 := by
  refine And.intro (by omega) ⟨by omega, 11, 1282, by omega, by omega, ?_⟩
  unfold wpX_init
  refine ⟨by omega, by omega, by omega, by omega, by omega, by omega, by omega, by omega, by omega, by omega, by omega, by omega, by omega, by omega, by omega, by omega, by omega, by omega, by omega, by omega, by omega, by omega, ?_⟩
  have hqs : ¬ nI q < 0 ∧ nI q ≤ 10 ∧ ¬ nI q = 1 ∧ 5 < nI q ∧ (nI q).toInt8.toInt32 = nI q := by
    have e : q = 6 ∨ q = 7 ∨ q = 8 ∨ q = 9 := by omega
    rcases e with rfl | rfl | rfl | rfl <;> decide
  have hks : ∀ k, k < 8 → ¬ nI k < 0 ∧ nI k ≤ 7 ∧ nI k ≤ 15 ∧ (nI k).toInt8.toInt32 = nI k := by decide +kernel
  have hks := hks k hk
  refine dq_node (n := 0) (p0' := 2) (p2' := 0) (by omega) (by decide) (by decide) (by decide) (by decide) (by decide) (by decide) (by decide) (by decide) (by decide) (by decide) (by decide) (br_t (by decide) ?_)
  refine dq_node (n := 1) (p0' := nI q) (p2' := nI k) (by omega) hqs.1 hqs.2.1 hqs.2.2.1 (by decide) (by decide) (Or.inr hqs.2.2.2.1) hks.1 hks.2.1 hks.2.2.1 hqs.2.2.2.2 hks.2.2.2 (br_t (by decide) ?_)
  refine dq_node (n := 2) (p0' := 0) (p2' := 0) (by omega) (by decide) (by decide) (by decide) (by decide) (by decide) (by decide) (by decide) (by decide) (by decide) (by decide) (by decide) (br_t (by decide) ?_)
  refine dq_feed0 (q := q) (k := k) hq hq' hk ⟨rfl, rfl, rfl⟩ rfl rfl rfl rfl (fun e c hl b7 b8 b9 b10 a hcd y0 y3 => br_f (by decide) ?_)
  refine dq_value (i := 0) (r := 0) (by omega) (by decide) y0 (br_t rfl ?_)
  refine dq_feed1 hq hq' hk hcd (fun a' z0 z1 z2 => br_f (by decide) ?_)
  refine dq_value (i := 0) (by omega) (by decide) (z0.trans y3) (br_t rfl ?_)
  refine dq_value (i := 1) (by omega) (by decide) z1 (br_t rfl ?_)
  exact dq_value (i := 2) (by omega) (by decide) z2 (br_t rfl rfl)
theorem dq_due (x y o s : Int32) : wpL_lawOf (fun r _ => r = 1) 378 6032 () o s x y := by
  obtain ⟨j, hj, ej⟩ := pk_andE o (m := 3) 2 (by decide)
  obtain ⟨k, hk, ek⟩ := pk_andE s (m := 7) 3 (by decide)
  have hk8 : k < 8 := hk
  have hv := dq_S_in y.toInt
  have M := fun q hq hq' => dq_102 (q := q) (k := k) (x := x) (y := y) hq hq' hk8
  refine nm_r (e' := nI (6 + j)) (by rw [ej]; exact nI_add 6 j) (nm_r ek (dq_sat (dq_sat ?_)))
  have hj4 : j = 0 ∨ j = 1 ∨ j = 2 ∨ j = 3 := by omega
  rcases hj4 with rfl | rfl | rfl | rfl
  · refine br_t (by decide) (dq_sat (br_f (by decide) (br_f (by decide) ?_)))
    have e : Int32.ofInt (dq_S (-Int32.ofInt (dq_S y.toInt)).toInt) = Int32.ofInt (dq_D 6 k (dq_S y.toInt)) := by
      rw [Int32.neg_ofInt, dq_i (by omega) (by omega)]
      rfl
    rw [e]
    exact M 6 (by omega) (by omega)
  · refine br_f (by decide) (br_t (by decide) ?_)
    have z0 : (0 : Int32).toInt = 0 := by decide
    refine br_c (fun z => dq_sat (br_f (by decide) (br_f (by decide) ?_))) (fun z => dq_sat (br_f (by decide) (br_f (by decide) ?_)))
    · rw [Int32.le_iff_toInt_le, z0, dq_i (by omega) (by omega)] at z
      have e : Int32.ofInt (dq_S (Int32.ofInt (dq_S y.toInt)).toInt) = Int32.ofInt (dq_D 7 k (dq_S y.toInt)) := by
        rw [dq_i (by omega) (by omega)]
        show _ = Int32.ofInt (dq_S (if 0 ≤ dq_S y.toInt then dq_S y.toInt else -dq_S y.toInt))
        rw [if_pos z]
      rw [e]
      exact M 7 (by omega) (by omega)
    · rw [Int32.le_iff_toInt_le, z0, dq_i (by omega) (by omega)] at z
      have e : Int32.ofInt (dq_S (-Int32.ofInt (dq_S y.toInt)).toInt) = Int32.ofInt (dq_D 7 k (dq_S y.toInt)) := by
        rw [Int32.neg_ofInt, dq_i (by omega) (by omega)]
        show _ = Int32.ofInt (dq_S (if 0 ≤ dq_S y.toInt then dq_S y.toInt else -dq_S y.toInt))
        rw [if_neg z]
      rw [e]
      exact M 7 (by omega) (by omega)
  · refine br_f (by decide) (br_f (by decide) (br_t (by decide) (dq_sat (br_f (by decide) ?_))))
    have hb := dq_mul (dq_pw hk8).1 (dq_pw hk8).2 hv.1 hv.2
    have e : Int32.ofInt (dq_S (Int32.ofInt (dq_S y.toInt) <<< (nI k &&& 31)).toInt) = Int32.ofInt (dq_D 8 k (dq_S y.toInt)) := by
      rw [dq_shl32 hk8, dq_i hb.1 hb.2]
      rfl
    rw [e]
    exact M 8 (by omega) (by omega)
  · refine br_f (by decide) (br_f (by decide) (br_f (by decide) (br_t (by decide) (nm_r (dq_shr32 hk8 hv.1 hv.2) ?_))))
    exact M 9 (by omega) (by omega)
end
theorem dq_cell {post : Int32 → Prop} {L : Nat} {xs : Nat → Int32} {u : St0} {i : Nat} (hL : L ≤ 4) (hi : i < 4) (H : ∀ r, post r) : wpL_cellAt post L xs u (nI i) :=
  pk_le L i (fun _ => H 0) (fun z => ⟨pk_in i L z, H _⟩)
theorem i_vc (xs : Nat → Int32) (L : Nat) (hL : L ≤ 4) : wpL_law (fun r => r = 1) L xs :=
  dq_cell (i := 0) hL (by omega) (fun r1 => dq_cell (i := 1) hL (by omega) (fun r2 => dq_cell (i := 2) hL (by omega) (fun r3 => dq_cell (i := 3) hL (by omega) (fun r4 => ⟨378, 6032, by omega, by omega, dq_due r3 r4 r1 r2⟩))))
end
