section
section
variable {lg ht pl tb fr nd : Int32} {a1 a2 a3 a4 a5 a6 a7 a8 a9 a10 a11 a12 a13 a14 a15 a16 a17 a18 a19 a20 a21 a22 : Nat → Int32}
/-- the places that one letter may lead to, the first p places of the set looked at -/
def wr_st (a8 a13 : Nat → Int32) (j : Nat) (s : Int32) : Nat → Int32
  | 0 => if s &&& 4096 = 0 then 0 else a8 j
  | p + 1 => if (s >>> (nI p &&& 31)) &&& 1 = 1 then wr_st a8 a13 j s p ||| a13 (j * 12 + p) else wr_st a8 a13 j s p
/-- the set that a letter c leads to -/
def wr_step (a8 a11 a12 a13 : Nat → Int32) (j : Nat) (s c : Int32) : Int32 := if c = 0 then wr_st a8 a13 j s 12 &&& a11 j else wr_st a8 a13 j s 12 &&& a12 j
/-- the table's answer at an index -/
def wr_tb (tb i : Int32) : Int32 := if (tb >>> (i &&& 31)) &&& 1 = 1 then 1 else 0
/-- the index of three sets -/
def wr_ix (a9 : Nat → Int32) (x y z : Int32) : Int32 :=
  if z &&& a9 2 = 0 then (if y &&& a9 1 = 0 then (if x &&& a9 0 = 0 then 0 else 1) else (if x &&& a9 0 = 0 then 0 else 1) + 2) else (if y &&& a9 1 = 0 then (if x &&& a9 0 = 0 then 0 else 1) else (if x &&& a9 0 = 0 then 0 else 1) + 2) + 4
def wr_hit (tb : Int32) (a9 : Nat → Int32) (x y z : Int32) : Int32 := wr_tb tb (wr_ix a9 x y z)
theorem wr_tb01 (tb i : Int32) : wr_tb tb i = 0 ∨ wr_tb tb i = 1 := by
  unfold wr_tb
  by_cases h : (tb >>> (i &&& 31)) &&& 1 = 1
  · exact Or.inr (if_pos h)
  · exact Or.inl (if_neg h)
theorem wr_nar (tb i : Int32) : vp_nar .boolean (wr_tb tb i) = wr_tb tb i := by
  rcases wr_tb01 tb i with h | h
  · rw [h]; rfl
  · rw [h]; rfl
theorem wr_acc {post : Int32 → Prop} {s : Int32} {j : Nat} (hj : j < 3) (h0 : a10 j = 0) (h : post (if s &&& a9 j = 0 then 0 else 1)) : wpX_accepts post (lg, ht, pl, tb, fr, nd, a1, a2, a3, a4, a5, a6, a7, a8, a9, a10, a11, a12, a13, a14, a15, a16, a17, a18, a19, a20, a21, a22) (nI j) s := by
  have e : (nI j).toNatClampNeg = j := nI_clamp (by omega)
  have k : wX_accepts_19 post (nI j) s lg ht pl tb fr nd a1 a2 a3 a4 a5 a6 a7 a8 a9 a10 a11 a12 a13 a14 a15 a16 a17 a18 a19 a20 a21 a22 := by
    unfold wX_accepts_19
    rw [e]
    refine ⟨pk_in j 3 hj, br_c (fun z => ?_) (fun z => ?_)⟩
    · rw [if_pos z] at h
      exact h
    · rw [if_neg z] at h
      exact h
  unfold wpX_accepts
  dsimp only
  rw [e]
  exact br_c (fun _ => k) (fun _ => ⟨pk_in j 3 hj, br_t h0 k⟩)
theorem wr_c45 {post : Int32 → Prop} {i : Int32} (h : post (wr_tb tb i)) : wX_chosen_45 post i lg ht pl tb fr nd a1 a2 a3 a4 a5 a6 a7 a8 a9 a10 a11 a12 a13 a14 a15 a16 a17 a18 a19 a20 a21 a22 := by
  unfold wX_chosen_45
  unfold wr_tb at h
  refine br_c (fun z => ?_) (fun z => ?_)
  · rw [if_pos z] at h
    exact h
  · rw [if_neg z] at h
    exact h
theorem wr_c30 {post : Int32 → Prop} {z i : Int32} (h10 : ∀ j, j < 3 → a10 j = 0) (h : post (wr_tb tb (if z &&& a9 2 = 0 then i else i + 4))) : wX_chosen_30 post z i lg ht pl tb fr nd a1 a2 a3 a4 a5 a6 a7 a8 a9 a10 a11 a12 a13 a14 a15 a16 a17 a18 a19 a20 a21 a22 := by
  unfold wX_chosen_30
  refine wr_acc (j := 2) (by omega) (h10 2 (by omega)) ?_
  by_cases e : z &&& a9 2 = 0
  · rw [if_pos e] at h ⊢
    exact br_t rfl (wr_c45 h)
  · rw [if_neg e] at h ⊢
    exact br_f (by decide) (nm_e (wr_c45 h))
theorem wr_c15 {post : Int32 → Prop} {y z i : Int32} (h10 : ∀ j, j < 3 → a10 j = 0) (h : post (wr_tb tb (if z &&& a9 2 = 0 then (if y &&& a9 1 = 0 then i else i + 2) else (if y &&& a9 1 = 0 then i else i + 2) + 4))) : wX_chosen_15 post y z i lg ht pl tb fr nd a1 a2 a3 a4 a5 a6 a7 a8 a9 a10 a11 a12 a13 a14 a15 a16 a17 a18 a19 a20 a21 a22 := by
  unfold wX_chosen_15
  refine wr_acc (j := 1) (by omega) (h10 1 (by omega)) ?_
  by_cases e : y &&& a9 1 = 0
  · rw [if_pos e] at h ⊢
    exact br_t rfl (wr_c30 h10 h)
  · rw [if_neg e] at h ⊢
    exact br_f (by decide) (nm_e (wr_c30 h10 h))
theorem wr_cho {post : Int32 → Prop} {x y z : Int32} (h10 : ∀ j, j < 3 → a10 j = 0) (h : post (wr_hit tb a9 x y z)) : wpX_chosen post (lg, ht, pl, tb, fr, nd, a1, a2, a3, a4, a5, a6, a7, a8, a9, a10, a11, a12, a13, a14, a15, a16, a17, a18, a19, a20, a21, a22) x y z := by
  unfold wpX_chosen
  dsimp only
  unfold wr_hit wr_ix at h
  refine wr_acc (j := 0) (by omega) (h10 0 (by omega)) ?_
  by_cases e : x &&& a9 0 = 0
  · rw [if_pos e] at h ⊢
    exact br_t rfl (wr_c15 h10 h)
  · rw [if_neg e] at h ⊢
    exact br_f (by decide) (wr_c15 h10 h)
end
end
section
section
variable {lg ht pl tb fr nd : Int32} {a1 a2 a3 a4 a5 a6 a7 a8 a9 a10 a11 a12 a13 a14 a15 a16 a17 a18 a19 a20 a21 a22 : Nat → Int32}
theorem wr_nda {post : Int32 → St2 → Prop} {N F : Nat} {x y z : Int32} (hF : F ≤ N) (hN : N < 256) (h10 : ∀ j, j < 3 → a10 j = 0)
    (hf : ∀ i, F ≤ i → i < N → a15 i = x → a16 i = y → a17 i = z → post (nI i) (lg, ht, pl, tb, fr, nI N, a1, a2, a3, a4, a5, a6, a7, a8, a9, a10, a11, a12, a13, a14, a15, a16, a17, a18, a19, a20, a21, a22))
    (hn : post (nI N) (lg, ht, pl, tb, fr, nI (N + 1), a1, a2, a3, a4, a5, a6, a7, a8, a9, a10, a11, a12, a13, a14, upd a15 N x, upd a16 N y, upd a17 N z, a18, a19, upd a20 N (wr_hit tb a9 x y z), a21, a22)) :
    wpX_node post (lg, ht, pl, tb, fr, nI N, a1, a2, a3, a4, a5, a6, a7, a8, a9, a10, a11, a12, a13, a14, a15, a16, a17, a18, a19, a20, a21, a22) (nI F) x y z := by
  unfold wpX_node
  dsimp only
  refine pk_loop (σ := Unit) (fun n i _ => wX_node_3 post x y z lg ht pl tb fr (nI N) a1 a2 a3 a4 a5 a6 a7 a8 a9 a10 a11 a12 a13 a14 a15 a16 a17 a18 a19 a20 a21 a22 n (nI i)) (fun i _ => F ≤ i) N F () hF (Nat.le_refl F) ?_ ?_
  · intro n _ _
    refine pk_le N N (fun _ => pk_le 256 N (fun q => absurd q (by omega)) (fun _ => ?_)) (fun q => absurd q (by omega))
    rw [nI_clamp (show N < 2 ^ 31 by omega)]
    refine ⟨pk_in N 256 hN, nm_e ⟨pk_in N 256 hN, nm_e ⟨pk_in N 256 hN, nm_e (wr_cho h10 ⟨pk_in N 256 hN, ?_⟩)⟩⟩⟩
    exact nm_r (by unfold wr_hit; rw [wr_nar]) (nm_r (nI_1 N) hn)
  · intro n i _ hi hI hw
    have t := hw () (Nat.le_succ_of_le hI)
    refine pk_le N i (fun q => absurd q (by omega)) (fun _ => ?_)
    rw [nI_clamp (show i < 2 ^ 31 by omega)]
    exact ⟨pk_in i 256 (by omega), br_c (fun e1 => ⟨pk_in i 256 (by omega), br_c (fun e2 => ⟨pk_in i 256 (by omega), br_c (fun e3 => hf i hI hi e1 e2 e3) (fun _ => nm_r (nI_1 i) t)⟩) (fun _ => nm_r (nI_1 i) t)⟩) (fun _ => nm_r (nI_1 i) t)⟩
theorem wr_ndb {post : Int32 → St2 → Prop} {N F : Nat} {x y z : Int32} (hF : F ≤ N) (hN : N < 256) (h10 : ∀ j, j < 3 → a10 j = 0)
    (hf : ∀ i, F ≤ i → i < N → a15 i = x → a16 i = y → a17 i = z → post (nI i) (lg, ht, pl, tb, fr, nI N, a1, a2, a3, a4, a5, a6, a7, a8, a9, a10, a11, a12, a13, a14, a15, a16, a17, a18, a19, a20, a21, a22))
    (hn : post (nI N) (lg, ht, pl, tb, fr, nI (N + 1), a1, a2, a3, a4, a5, a6, a7, a8, a9, a10, a11, a12, a13, a14, upd a15 N x, upd a16 N y, upd a17 N z, a18, a19, upd a20 N (wr_hit tb a9 x y z), a21, a22)) :
    wpX_node_2 post (lg, ht, pl, tb, fr, nI N, a1, a2, a3, a4, a5, a6, a7, a8, a9, a10, a11, a12, a13, a14, a15, a16, a17, a18, a19, a20, a21, a22) (nI F) x y z := by
  unfold wpX_node_2
  dsimp only
  refine pk_loop (σ := Unit) (fun n i _ => wX_node_2_3 post x y z lg ht pl tb fr (nI N) a1 a2 a3 a4 a5 a6 a7 a8 a9 a10 a11 a12 a13 a14 a15 a16 a17 a18 a19 a20 a21 a22 n (nI i)) (fun i _ => F ≤ i) N F () hF (Nat.le_refl F) ?_ ?_
  · intro n _ _
    refine pk_le N N (fun _ => pk_le 256 N (fun q => absurd q (by omega)) (fun _ => ?_)) (fun q => absurd q (by omega))
    rw [nI_clamp (show N < 2 ^ 31 by omega)]
    refine ⟨pk_in N 256 hN, nm_e ⟨pk_in N 256 hN, nm_e ⟨pk_in N 256 hN, nm_e (wr_cho h10 ⟨pk_in N 256 hN, ?_⟩)⟩⟩⟩
    exact nm_r (by unfold wr_hit; rw [wr_nar]) (nm_r (nI_1 N) hn)
  · intro n i _ hi hI hw
    have t := hw () (Nat.le_succ_of_le hI)
    refine pk_le N i (fun q => absurd q (by omega)) (fun _ => ?_)
    rw [nI_clamp (show i < 2 ^ 31 by omega)]
    exact ⟨pk_in i 256 (by omega), br_c (fun e1 => ⟨pk_in i 256 (by omega), br_c (fun e2 => ⟨pk_in i 256 (by omega), br_c (fun e3 => hf i hI hi e1 e2 e3) (fun _ => nm_r (nI_1 i) t)⟩) (fun _ => nm_r (nI_1 i) t)⟩) (fun _ => nm_r (nI_1 i) t)⟩
theorem wr_ndc {post : Int32 → St2 → Prop} {N F : Nat} {x y z : Int32} (hF : F ≤ N) (hN : N < 256) (h10 : ∀ j, j < 3 → a10 j = 0)
    (hf : ∀ i, F ≤ i → i < N → a15 i = x → a16 i = y → a17 i = z → post (nI i) (lg, ht, pl, tb, fr, nI N, a1, a2, a3, a4, a5, a6, a7, a8, a9, a10, a11, a12, a13, a14, a15, a16, a17, a18, a19, a20, a21, a22))
    (hn : post (nI N) (lg, ht, pl, tb, fr, nI (N + 1), a1, a2, a3, a4, a5, a6, a7, a8, a9, a10, a11, a12, a13, a14, upd a15 N x, upd a16 N y, upd a17 N z, a18, a19, upd a20 N (wr_hit tb a9 x y z), a21, a22)) :
    wpX_node_3 post (lg, ht, pl, tb, fr, nI N, a1, a2, a3, a4, a5, a6, a7, a8, a9, a10, a11, a12, a13, a14, a15, a16, a17, a18, a19, a20, a21, a22) (nI F) x y z := by
  unfold wpX_node_3
  dsimp only
  refine pk_loop (σ := Unit) (fun n i _ => wX_node_3_3 post x y z lg ht pl tb fr (nI N) a1 a2 a3 a4 a5 a6 a7 a8 a9 a10 a11 a12 a13 a14 a15 a16 a17 a18 a19 a20 a21 a22 n (nI i)) (fun i _ => F ≤ i) N F () hF (Nat.le_refl F) ?_ ?_
  · intro n _ _
    refine pk_le N N (fun _ => pk_le 256 N (fun q => absurd q (by omega)) (fun _ => ?_)) (fun q => absurd q (by omega))
    rw [nI_clamp (show N < 2 ^ 31 by omega)]
    refine ⟨pk_in N 256 hN, nm_e ⟨pk_in N 256 hN, nm_e ⟨pk_in N 256 hN, nm_e (wr_cho h10 ⟨pk_in N 256 hN, ?_⟩)⟩⟩⟩
    exact nm_r (by unfold wr_hit; rw [wr_nar]) (nm_r (nI_1 N) hn)
  · intro n i _ hi hI hw
    have t := hw () (Nat.le_succ_of_le hI)
    refine pk_le N i (fun q => absurd q (by omega)) (fun _ => ?_)
    rw [nI_clamp (show i < 2 ^ 31 by omega)]
    exact ⟨pk_in i 256 (by omega), br_c (fun e1 => ⟨pk_in i 256 (by omega), br_c (fun e2 => ⟨pk_in i 256 (by omega), br_c (fun e3 => hf i hI hi e1 e2 e3) (fun _ => nm_r (nI_1 i) t)⟩) (fun _ => nm_r (nI_1 i) t)⟩) (fun _ => nm_r (nI_1 i) t)⟩
theorem wr_stp {post : Int32 → Prop} {j : Nat} {s c : Int32} (hj : j < 3) (h : post (wr_step a8 a11 a12 a13 j s c)) : wpX_step post (lg, ht, pl, tb, fr, nd, a1, a2, a3, a4, a5, a6, a7, a8, a9, a10, a11, a12, a13, a14, a15, a16, a17, a18, a19, a20, a21, a22) (nI j) s c := by
  have e : (nI j).toNatClampNeg = j := nI_clamp (by omega)
  have L : ∀ v, v = wr_st a8 a13 j s 0 → ∃ fu, wX_step_22 post (nI j) s c lg ht pl tb fr nd a1 a2 a3 a4 a5 a6 a7 a8 a9 a10 a11 a12 a13 a14 a15 a16 a17 a18 a19 a20 a21 a22 fu v (nI 0) := by
    intro v hv
    refine pk_loop (σ := Int32) (fun n p v => wX_step_22 post (nI j) s c lg ht pl tb fr nd a1 a2 a3 a4 a5 a6 a7 a8 a9 a10 a11 a12 a13 a14 a15 a16 a17 a18 a19 a20 a21 a22 n v (nI p)) (fun p v => v = wr_st a8 a13 j s p) 12 0 v (by omega) hv ?_ ?_
    · intro n v hv
      refine pk_le 12 12 (fun _ => ?_) (fun q => absurd q (by omega))
      rw [e]
      subst hv
      unfold wr_step at h
      refine br_c (fun q => ⟨pk_in j 3 hj, ?_⟩) (fun q => ⟨pk_in j 3 hj, ?_⟩)
      · rw [if_pos q] at h
        exact h
      · rw [if_neg q] at h
        exact h
    · intro n p v hp hv hw
      have ei : nI j * 12 + nI p = nI (j * 12 + p) := by
        rw [show (12 : Int32) = nI 12 from rfl, pk_mul, nI_add]
      refine pk_le 12 p (fun q => absurd q (by omega)) (fun _ => ?_)
      rw [ei, nI_clamp (show j * 12 + p < 2 ^ 31 by omega)]
      refine br_c (fun q => ⟨pk_in (j * 12 + p) 36 (by omega), nm_e (nm_r (nI_1 p) (hw _ ?_))⟩) (fun q => nm_r (nI_1 p) (hw _ ?_))
      · show v ||| a13 (j * 12 + p) = wr_st a8 a13 j s (p + 1)
        rw [hv]
        exact (if_pos q).symm
      · show v = wr_st a8 a13 j s (p + 1)
        rw [hv]
        exact (if_neg q).symm
  unfold wpX_step
  dsimp only
  rw [e]
  refine br_c (fun q => L 0 (if_pos q).symm) (fun q => ⟨pk_in j 3 hj, nm_e (L (a8 j) (if_neg q).symm)⟩)
theorem wr_cha {post : Int32 → St2 → Prop} {N F i : Nat} {c : Int32} (hi : i < 256) (hF : F ≤ N) (hN : N < 256) (h10 : ∀ j, j < 3 → a10 j = 0)
    (hf : ∀ k, F ≤ k → k < N → a15 k = wr_step a8 a11 a12 a13 0 (a15 i) c → a16 k = wr_step a8 a11 a12 a13 1 (a16 i) c → a17 k = wr_step a8 a11 a12 a13 2 (a17 i) c → post (nI k) (lg, ht, pl, tb, fr, nI N, a1, a2, a3, a4, a5, a6, a7, a8, a9, a10, a11, a12, a13, a14, a15, a16, a17, a18, a19, a20, a21, a22))
    (hn : post (nI N) (lg, ht, pl, tb, fr, nI (N + 1), a1, a2, a3, a4, a5, a6, a7, a8, a9, a10, a11, a12, a13, a14, upd a15 N (wr_step a8 a11 a12 a13 0 (a15 i) c), upd a16 N (wr_step a8 a11 a12 a13 1 (a16 i) c), upd a17 N (wr_step a8 a11 a12 a13 2 (a17 i) c), a18, a19, upd a20 N (wr_hit tb a9 (wr_step a8 a11 a12 a13 0 (a15 i) c) (wr_step a8 a11 a12 a13 1 (a16 i) c) (wr_step a8 a11 a12 a13 2 (a17 i) c)), a21, a22)) :
    wpX_child post (lg, ht, pl, tb, fr, nI N, a1, a2, a3, a4, a5, a6, a7, a8, a9, a10, a11, a12, a13, a14, a15, a16, a17, a18, a19, a20, a21, a22) (nI F) (nI i) c := by
  unfold wpX_child
  dsimp only
  rw [nI_clamp (show i < 2 ^ 31 by omega)]
  exact ⟨pk_in i 256 hi, wr_stp (j := 0) (by omega) ⟨pk_in i 256 hi, wr_stp (j := 1) (by omega) ⟨pk_in i 256 hi, wr_stp (j := 2) (by omega) (wr_ndb hF hN h10 hf hn)⟩⟩⟩
theorem wr_chb {post : Int32 → St2 → Prop} {N F i : Nat} {c : Int32} (hi : i < 256) (hF : F ≤ N) (hN : N < 256) (h10 : ∀ j, j < 3 → a10 j = 0)
    (hf : ∀ k, F ≤ k → k < N → a15 k = wr_step a8 a11 a12 a13 0 (a15 i) c → a16 k = wr_step a8 a11 a12 a13 1 (a16 i) c → a17 k = wr_step a8 a11 a12 a13 2 (a17 i) c → post (nI k) (lg, ht, pl, tb, fr, nI N, a1, a2, a3, a4, a5, a6, a7, a8, a9, a10, a11, a12, a13, a14, a15, a16, a17, a18, a19, a20, a21, a22))
    (hn : post (nI N) (lg, ht, pl, tb, fr, nI (N + 1), a1, a2, a3, a4, a5, a6, a7, a8, a9, a10, a11, a12, a13, a14, upd a15 N (wr_step a8 a11 a12 a13 0 (a15 i) c), upd a16 N (wr_step a8 a11 a12 a13 1 (a16 i) c), upd a17 N (wr_step a8 a11 a12 a13 2 (a17 i) c), a18, a19, upd a20 N (wr_hit tb a9 (wr_step a8 a11 a12 a13 0 (a15 i) c) (wr_step a8 a11 a12 a13 1 (a16 i) c) (wr_step a8 a11 a12 a13 2 (a17 i) c)), a21, a22)) :
    wpX_child_2 post (lg, ht, pl, tb, fr, nI N, a1, a2, a3, a4, a5, a6, a7, a8, a9, a10, a11, a12, a13, a14, a15, a16, a17, a18, a19, a20, a21, a22) (nI F) (nI i) c := by
  unfold wpX_child_2
  dsimp only
  rw [nI_clamp (show i < 2 ^ 31 by omega)]
  exact ⟨pk_in i 256 hi, wr_stp (j := 0) (by omega) ⟨pk_in i 256 hi, wr_stp (j := 1) (by omega) ⟨pk_in i 256 hi, wr_stp (j := 2) (by omega) (wr_ndc hF hN h10 hf hn)⟩⟩⟩
end
end
section
section
variable {lg ht pl tb fr nd : Int32} {a1 a2 a3 a4 a5 a6 a7 a8 a9 a10 a11 a12 a13 a14 a15 a16 a17 a18 a19 a20 a21 a22 : Nat → Int32}
/-- v is the kid of node i by the letter c -/
def wr_K (a8 a11 a12 a13 a15 a16 a17 : Nat → Int32) (dp : Nat → Nat) (N i : Nat) (c v : Int32) : Prop :=
  ∃ k, v = nI k ∧ k < N ∧ dp k = dp i + 1 ∧ a15 k = wr_step a8 a11 a12 a13 0 (a15 i) c ∧ a16 k = wr_step a8 a11 a12 a13 1 (a16 i) c ∧ a17 k = wr_step a8 a11 a12 a13 2 (a17 i) c
/-- the graph: N nodes, the first M of them have kids; dp: a node's depth -/
def wr_G (tb : Int32) (a8 a9 a11 a12 a13 : Nat → Int32) (N M : Nat) (dp : Nat → Nat) (a15 a16 a17 a18 a19 a20 : Nat → Int32) : Prop :=
  (0 < N ∧ dp 0 = 0 ∧ a15 0 = 4096 ∧ a16 0 = 4096 ∧ a17 0 = 4096) ∧ (∀ i, i < N → a20 i = wr_hit tb a9 (a15 i) (a16 i) (a17 i)) ∧
  (∀ i, i < M → wr_K a8 a11 a12 a13 a15 a16 a17 dp N i 0 (a18 i) ∧ wr_K a8 a11 a12 a13 a15 a16 a17 dp N i 1 (a19 i))
/-- the first N nodes are as they were -/
def wr_E (N N' : Nat) (dp dp' : Nat → Nat) (a15 a16 a17 b15 b16 b17 : Nat → Int32) : Prop :=
  N ≤ N' ∧ ∀ k, k < N → dp' k = dp k ∧ b15 k = a15 k ∧ b16 k = a16 k ∧ b17 k = a17 k
theorem wr_Kx {dp dp' : Nat → Nat} {N N' i : Nat} {c v : Int32} {b15 b16 b17 : Nat → Int32} (h : wr_K a8 a11 a12 a13 a15 a16 a17 dp N i c v) (hi : i < N) (e : wr_E N N' dp dp' a15 a16 a17 b15 b16 b17) :
    wr_K a8 a11 a12 a13 b15 b16 b17 dp' N' i c v := by
  obtain ⟨k, e0, hk, h1, h2, h3, h4⟩ := h
  obtain ⟨hN, q⟩ := e
  obtain ⟨p0, p1, p2, p3⟩ := q i hi
  obtain ⟨r0, r1, r2, r3⟩ := q k hk
  exact ⟨k, e0, by omega, by rw [r0, p0, h1], by rw [r1, p1, h2], by rw [r2, p2, h3], by rw [r3, p3, h4]⟩
theorem wr_Ex (N d : Nat) (dp : Nat → Nat) (a15 a16 a17 : Nat → Int32) (x y z : Int32) : wr_E N (N + 1) dp (fun k => if k = N then d else dp k) a15 a16 a17 (upd a15 N x) (upd a16 N y) (upd a17 N z) :=
  ⟨by omega, fun k hk => ⟨if_neg (by omega), pk_un (by omega), pk_un (by omega), pk_un (by omega)⟩⟩
theorem wr_Gx {dp : Nat → Nat} {N M : Nat} (g : wr_G tb a8 a9 a11 a12 a13 N M dp a15 a16 a17 a18 a19 a20) (hM : M ≤ N) (d : Nat) (x y z : Int32) :
    wr_G tb a8 a9 a11 a12 a13 (N + 1) M (fun k => if k = N then d else dp k) (upd a15 N x) (upd a16 N y) (upd a17 N z) a18 a19 (upd a20 N (wr_hit tb a9 x y z)) := by
  obtain ⟨⟨g0, g1, g2, g3, g4⟩, gh, gk⟩ := g
  have e := wr_Ex N d dp a15 a16 a17 x y z
  obtain ⟨q0, q1, q2, q3⟩ := e.2 0 g0
  refine ⟨⟨by omega, q0.trans g1, q1.trans g2, q2.trans g3, q3.trans g4⟩, ?_, fun i hi => ⟨wr_Kx (gk i hi).1 (by omega) e, wr_Kx (gk i hi).2 (by omega) e⟩⟩
  intro i hi
  by_cases ei : i = N
  · subst ei
    rw [pk_us, pk_us, pk_us, pk_us]
  · rw [pk_un ei, pk_un ei, pk_un ei, pk_un ei]
    exact gh i (by omega)
theorem wr_G18 {dp : Nat → Nat} {N i : Nat} (g : wr_G tb a8 a9 a11 a12 a13 N i dp a15 a16 a17 a18 a19 a20) (v : Int32) :
    wr_G tb a8 a9 a11 a12 a13 N i dp a15 a16 a17 (upd a18 i v) a19 a20 := by
  refine ⟨g.1, g.2.1, fun k hk => ?_⟩
  rw [pk_un (show k ≠ i by omega)]
  exact g.2.2 k hk
theorem wr_Gk {dp : Nat → Nat} {N i : Nat} {w : Int32} (g : wr_G tb a8 a9 a11 a12 a13 N i dp a15 a16 a17 a18 a19 a20) (k0 : wr_K a8 a11 a12 a13 a15 a16 a17 dp N i 0 (a18 i)) (k1 : wr_K a8 a11 a12 a13 a15 a16 a17 dp N i 1 w) :
    wr_G tb a8 a9 a11 a12 a13 N (i + 1) dp a15 a16 a17 a18 (upd a19 i w) a20 := by
  refine ⟨g.1, g.2.1, fun k hk => ?_⟩
  by_cases e : k = i
  · subst e
    rw [pk_us]
    exact ⟨k0, k1⟩
  · rw [pk_un e]
    exact g.2.2 k (by omega)
theorem wr_gca {post : Int32 → St2 → Prop} {N M F i d : Nat} {dp : Nat → Nat} {c : Int32} (g : wr_G tb a8 a9 a11 a12 a13 N M dp a15 a16 a17 a18 a19 a20) (hM : M ≤ N) (hi : i < N) (hd : dp i = d) (hF : F ≤ N) (hN : N < 256) (h10 : ∀ j, j < 3 → a10 j = 0)
    (hk : ∀ k, F ≤ k → k < N → dp k = d + 1)
    (H : ∀ (N' : Nat) (dp' : Nat → Nat) (b15 b16 b17 b20 : Nat → Int32) (v : Int32), N' ≤ N + 1 → wr_E N N' dp dp' a15 a16 a17 b15 b16 b17 → wr_G tb a8 a9 a11 a12 a13 N' M dp' b15 b16 b17 a18 a19 b20 →
      (∀ k, F ≤ k → k < N' → dp' k = d + 1) → wr_K a8 a11 a12 a13 b15 b16 b17 dp' N' i c v → post v (lg, ht, pl, tb, fr, nI N', a1, a2, a3, a4, a5, a6, a7, a8, a9, a10, a11, a12, a13, a14, b15, b16, b17, a18, a19, b20, a21, a22)) :
    wpX_child post (lg, ht, pl, tb, fr, nI N, a1, a2, a3, a4, a5, a6, a7, a8, a9, a10, a11, a12, a13, a14, a15, a16, a17, a18, a19, a20, a21, a22) (nI F) (nI i) c := by
  refine wr_cha (by omega) hF hN h10 (fun k h1 h2 e1 e2 e3 => H N dp a15 a16 a17 a20 (nI k) (by omega) ⟨Nat.le_refl N, fun _ _ => ⟨rfl, rfl, rfl, rfl⟩⟩ g hk ⟨k, rfl, h2, by rw [hd, hk k h1 h2], e1, e2, e3⟩) ?_
  refine H (N + 1) (fun k => if k = N then d + 1 else dp k) _ _ _ _ (nI N) (Nat.le_refl _) (wr_Ex N (d + 1) dp a15 a16 a17 _ _ _) (wr_Gx g hM (d + 1) _ _ _) ?_ ⟨N, rfl, by omega, ?_, ?_, ?_, ?_⟩
  · intro k h1 h2
    show (if k = N then d + 1 else dp k) = d + 1
    by_cases e : k = N
    · rw [if_pos e]
    · rw [if_neg e]
      exact hk k h1 (by omega)
  · show (if N = N then d + 1 else dp N) = (if i = N then d + 1 else dp i) + 1
    rw [if_pos rfl, if_neg (show ¬ i = N by omega), hd]
  · rw [pk_us, pk_un (show i ≠ N by omega)]
  · rw [pk_us, pk_un (show i ≠ N by omega)]
  · rw [pk_us, pk_un (show i ≠ N by omega)]
theorem wr_gcb {post : Int32 → St2 → Prop} {N M F i d : Nat} {dp : Nat → Nat} {c : Int32} (g : wr_G tb a8 a9 a11 a12 a13 N M dp a15 a16 a17 a18 a19 a20) (hM : M ≤ N) (hi : i < N) (hd : dp i = d) (hF : F ≤ N) (hN : N < 256) (h10 : ∀ j, j < 3 → a10 j = 0)
    (hk : ∀ k, F ≤ k → k < N → dp k = d + 1)
    (H : ∀ (N' : Nat) (dp' : Nat → Nat) (b15 b16 b17 b20 : Nat → Int32) (v : Int32), N' ≤ N + 1 → wr_E N N' dp dp' a15 a16 a17 b15 b16 b17 → wr_G tb a8 a9 a11 a12 a13 N' M dp' b15 b16 b17 a18 a19 b20 →
      (∀ k, F ≤ k → k < N' → dp' k = d + 1) → wr_K a8 a11 a12 a13 b15 b16 b17 dp' N' i c v → post v (lg, ht, pl, tb, fr, nI N', a1, a2, a3, a4, a5, a6, a7, a8, a9, a10, a11, a12, a13, a14, b15, b16, b17, a18, a19, b20, a21, a22)) :
    wpX_child_2 post (lg, ht, pl, tb, fr, nI N, a1, a2, a3, a4, a5, a6, a7, a8, a9, a10, a11, a12, a13, a14, a15, a16, a17, a18, a19, a20, a21, a22) (nI F) (nI i) c := by
  refine wr_chb (by omega) hF hN h10 (fun k h1 h2 e1 e2 e3 => H N dp a15 a16 a17 a20 (nI k) (by omega) ⟨Nat.le_refl N, fun _ _ => ⟨rfl, rfl, rfl, rfl⟩⟩ g hk ⟨k, rfl, h2, by rw [hd, hk k h1 h2], e1, e2, e3⟩) ?_
  refine H (N + 1) (fun k => if k = N then d + 1 else dp k) _ _ _ _ (nI N) (Nat.le_refl _) (wr_Ex N (d + 1) dp a15 a16 a17 _ _ _) (wr_Gx g hM (d + 1) _ _ _) ?_ ⟨N, rfl, by omega, ?_, ?_, ?_, ?_⟩
  · intro k h1 h2
    show (if k = N then d + 1 else dp k) = d + 1
    by_cases e : k = N
    · rw [if_pos e]
    · rw [if_neg e]
      exact hk k h1 (by omega)
  · show (if N = N then d + 1 else dp N) = (if i = N then d + 1 else dp i) + 1
    rw [if_pos rfl, if_neg (show ¬ i = N by omega), hd]
  · rw [pk_us, pk_un (show i ≠ N by omega)]
  · rw [pk_us, pk_un (show i ≠ N by omega)]
  · rw [pk_us, pk_un (show i ≠ N by omega)]
theorem wr_b66 {post : St2 → Prop} {J : Int32 → Int32 → Int32 → Int32 → Int32 → Int32 → Int32 → (Nat → Int32) → (Nat → Int32) → (Nat → Int32) → (Nat → Int32) → (Nat → Int32) → (Nat → Int32) → (Nat → Int32) → (Nat → Int32) → (Nat → Int32) → (Nat → Int32) → (Nat → Int32) → (Nat → Int32) → (Nat → Int32) → (Nat → Int32) → (Nat → Int32) → (Nat → Int32) → (Nat → Int32) → (Nat → Int32) → (Nat → Int32) → (Nat → Int32) → (Nat → Int32) → (Nat → Int32) → Prop} {d E L : Nat} (hE : E + 2 * (E - L) < 256) (h10 : ∀ j, j < 3 → a10 j = 0)
    (HJ : ∀ (N : Nat) (dp : Nat → Nat) (a15 a16 a17 a18 a19 a20 : Nat → Int32), E ≤ N → N ≤ E + 2 * (E - L) → wr_G tb a8 a9 a11 a12 a13 N E dp a15 a16 a17 a18 a19 a20 → (∀ k, E ≤ k → k < N → dp k = d + 1) → J (nI (d + 1)) lg ht pl tb fr (nI N) a1 a2 a3 a4 a5 a6 a7 a8 a9 a10 a11 a12 a13 a14 a15 a16 a17 a18 a19 a20 a21 a22) :
    ∀ (m i N : Nat) (dp : Nat → Nat) (a15 a16 a17 a18 a19 a20 : Nat → Int32), i + m = E → L ≤ i → E ≤ N → N ≤ E + 2 * (i - L) → wr_G tb a8 a9 a11 a12 a13 N i dp a15 a16 a17 a18 a19 a20 →
      (∀ k, L ≤ k → k < E → dp k = d) → (∀ k, E ≤ k → k < N → dp k = d + 1) → wX_build_66 post J (nI d) (nI E) (m + 1) (nI i) lg ht pl tb fr (nI N) a1 a2 a3 a4 a5 a6 a7 a8 a9 a10 a11 a12 a13 a14 a15 a16 a17 a18 a19 a20 a21 a22 := by
  intro m
  induction m with
  | zero =>
    intro i N dp a15 a16 a17 a18 a19 a20 hi hLi hEN hN g h1 h2
    have e : i = E := by omega
    subst e
    exact pk_le i i (fun _ => nm_r (nI_1 d) (HJ N dp a15 a16 a17 a18 a19 a20 hEN hN g h2)) (fun q => absurd q (by omega))
  | succ m ih =>
    intro i N dp a15 a16 a17 a18 a19 a20 hi hLi hEN hN g h1 h2
    refine pk_le E i (fun q => absurd q (by omega)) (fun _ => ?_)
    refine wr_gca (c := 0) (F := E) (d := d) g (by omega) (by omega) (h1 i hLi (by omega)) hEN (by omega) h10 h2 ?_
    intro N1 dp1 b15 b16 b17 b20 v hN1 e1 g1 k1 K1
    have l1 := e1.1
    dsimp only
    rw [nI_clamp (show i < 2 ^ 31 by omega)]
    refine ⟨pk_in i 256 (by omega), nm_e ?_⟩
    refine wr_gcb (c := 1) (F := E) (d := d) (wr_G18 g1 v) (by omega) (by omega) ((e1.2 i (by omega)).1.trans (h1 i hLi (by omega))) (by omega) (by omega) h10 k1 ?_
    intro N2 dp2 c15 c16 c17 c20 w hN2 e2 g2 k2 K2
    have l2 := e2.1
    dsimp only
    refine ⟨pk_in i 256 (by omega), nm_e (nm_r (nI_1 i) ?_)⟩
    refine ih (i + 1) N2 dp2 c15 c16 c17 (upd a18 i v) (upd a19 i w) c20 (by omega) (by omega) (by omega) (by omega) ?_ ?_ k2
    · refine wr_Gk g2 ?_ K2
      rw [pk_us]
      exact wr_Kx K1 (by omega) e2
    · intro k hk hk'
      rw [(e2.2 k (by omega)).1, (e1.2 k (by omega)).1]
      exact h1 k hk hk'
theorem wr_b37 {post : St2 → Prop} {n : Nat} (hn : n ≤ 7) (h10 : ∀ j, j < 3 → a10 j = 0)
    (H : ∀ (N L : Nat) (dp : Nat → Nat) (a14 a15 a16 a17 a18 a19 a20 : Nat → Int32), L ≤ N → N < 256 → wr_G tb a8 a9 a11 a12 a13 N L dp a15 a16 a17 a18 a19 a20 → (∀ k, L ≤ k → k < N → dp k = n) → post (nI n, ht, pl, tb, 1, nI N, a1, a2, a3, a4, a5, a6, a7, a8, a9, a10, a11, a12, a13, a14, a15, a16, a17, a18, a19, a20, a21, a22)) :
    ∀ (m d N L : Nat) (dp : Nat → Nat) (a14 a15 a16 a17 a18 a19 a20 : Nat → Int32), d + m = n → a14 d = nI L → L ≤ N → N - L ≤ 2 ^ d → N + 1 ≤ 2 * 2 ^ d → wr_G tb a8 a9 a11 a12 a13 N L dp a15 a16 a17 a18 a19 a20 →
      (∀ k, L ≤ k → k < N → dp k = d) → wX_build_37 post (m + 1) (nI d) (nI n) ht pl tb fr (nI N) a1 a2 a3 a4 a5 a6 a7 a8 a9 a10 a11 a12 a13 a14 a15 a16 a17 a18 a19 a20 a21 a22 := by
  intro m
  induction m with
  | zero =>
    intro d N L dp a14 a15 a16 a17 a18 a19 a20 hd h14 hL h1 h2 g hk
    have e : d = n := by omega
    subst e
    have hp : 2 ^ d ≤ 2 ^ 7 := Nat.pow_le_pow_right (by omega) hn
    exact pk_le d d (fun _ => ⟨pk_in (d + 1) 10 (by omega) (nI_1 d), nm_e (H N L dp _ a15 a16 a17 a18 a19 a20 hL (by omega) g hk)⟩) (fun q => absurd q (by omega))
  | succ m ih =>
    intro d N L dp a14 a15 a16 a17 a18 a19 a20 hd h14 hL h1 h2 g hk
    have hp : 2 ^ d ≤ 2 ^ 6 := Nat.pow_le_pow_right (by omega) (by omega)
    have hs : 2 ^ (d + 1) = 2 ^ d * 2 := Nat.pow_succ 2 d
    refine pk_le n d (fun q => absurd q (by omega)) (fun _ => ?_)
    rw [nI_1 d, nI_clamp (show d + 1 < 2 ^ 31 by omega), nI_clamp (show d < 2 ^ 31 by omega)]
    refine ⟨pk_in (d + 1) 10 (by omega), nm_e ⟨pk_in d 10 (by omega), nm_r (show upd a14 (d + 1) (nI N) d = nI L by rw [pk_un (by omega), h14]) ⟨N - L + 1, ?_⟩⟩⟩
    refine wr_b66 (d := d) (E := N) (L := L) (by omega) h10 ?_ (N - L) L N dp a15 a16 a17 a18 a19 a20 (by omega) (Nat.le_refl L) (Nat.le_refl N) (by omega) g hk (fun k q1 q2 => absurd q1 (by omega))
    intro N' dp' b15 b16 b17 b18 b19 b20 q1 q2 g' k'
    exact ih (d + 1) N' N dp' (upd a14 (d + 1) (nI N)) b15 b16 b17 b18 b19 b20 (by omega) pk_us q1 (by omega) (by omega) g' k'
theorem wr_bld {post : St2 → Prop} {n : Nat} (hn : n ≤ 7) (h10 : ∀ j, j < 3 → a10 j = 0) (hf : fr = 0)
    (H : ∀ (N L : Nat) (dp : Nat → Nat) (a14 a15 a16 a17 a18 a19 a20 : Nat → Int32), L ≤ N → N < 256 → wr_G tb a8 a9 a11 a12 a13 N L dp a15 a16 a17 a18 a19 a20 → (∀ k, L ≤ k → k < N → dp k = n) → post (nI n, ht, pl, tb, 1, nI N, a1, a2, a3, a4, a5, a6, a7, a8, a9, a10, a11, a12, a13, a14, a15, a16, a17, a18, a19, a20, a21, a22)) :
    wpX_build post (nI n, ht, pl, tb, fr, nd, a1, a2, a3, a4, a5, a6, a7, a8, a9, a10, a11, a12, a13, a14, a15, a16, a17, a18, a19, a20, a21, a22) := by
  unfold wpX_build
  dsimp only
  refine br_t hf (nm_e ?_)
  refine wr_nda (N := 0) (F := 0) (Nat.le_refl 0) (by omega) h10 (fun i _ h => absurd h (by omega)) ?_
  refine ⟨n + 1, wr_b37 hn h10 H n 0 1 0 (fun _ => 0) (upd a14 0 0) (upd a15 0 4096) (upd a16 0 4096) (upd a17 0 4096) a18 a19 (upd a20 0 (wr_hit tb a9 4096 4096 4096)) (by omega) pk_us (by omega) (by decide) (by decide) ?_ (fun _ _ _ => rfl)⟩
  refine ⟨⟨by omega, rfl, pk_us, pk_us, pk_us⟩, fun i hi => ?_, fun i hi => absurd hi (by omega)⟩
  have e : i = 0 := by omega
  subst e
  rw [pk_us, pk_us, pk_us, pk_us]
end
end
section
section
variable {lg ht pl tb fr nd : Int32} {a1 a2 a3 a4 a5 a6 a7 a8 a9 a10 a11 a12 a13 a14 a15 a16 a17 a18 a19 a20 a21 a22 : Nat → Int32}
theorem wr_w11 {post : Int32 → St2 → Prop} {bits : Int32} {N L n len : Nat} {dp : Nat → Nat} (hlen : len ≤ n) (hn : n ≤ 7) (hN : N < 256) (g : wr_G tb a8 a9 a11 a12 a13 N L dp a15 a16 a17 a18 a19 a20) (hk : ∀ k, L ≤ k → k < N → dp k = n)
    (R : Nat → Int32 → Int32 → Int32 → Prop)
    (hs : ∀ (r : Nat) (x y z c : Int32), r < len → R (len - (r + 1)) x y z → c = (if (bits >>> (nI r &&& 31)) &&& 1 = 1 then 1 else 0) → R (len - r) (wr_step a8 a11 a12 a13 0 x c) (wr_step a8 a11 a12 a13 1 y c) (wr_step a8 a11 a12 a13 2 z c))
    (H : ∀ u, u < N → R len (a15 u) (a16 u) (a17 u) → post (nI u) (lg, ht, pl, tb, fr, nd, a1, a2, a3, a4, a5, a6, a7, a8, a9, a10, a11, a12, a13, a14, a15, a16, a17, a18, a19, a20, a21, a22)) :
    ∀ r u : Nat, r ≤ len → u < N → dp u = len - r → R (len - r) (a15 u) (a16 u) (a17 u) → wX_walk_11 post bits lg ht pl tb fr nd a1 a2 a3 a4 a5 a6 a7 a8 a9 a10 a11 a12 a13 a14 a15 a16 a17 a18 a19 a20 a21 a22 (r + 1) (nI u) (nI r + (-1)) := by
  intro r
  induction r with
  | zero =>
    intro u h1 h2 h3 h4
    exact br_t (show nI 0 + (-1) < 0 by decide) (H u h2 h4)
  | succ r ih =>
    intro u h1 h2 h3 h4
    have hu : u < L := by
      rcases Nat.lt_or_ge u L with q | q
      · exact q
      · have := hk u q h2
        omega
    obtain ⟨⟨k0, e0, p0, d0, x0, y0, z0⟩, ⟨k1, e1, p1, d1, x1, y1, z1⟩⟩ := g.2.2 u hu
    rw [pk_m1 r]
    refine br_f (nI_pos (show r < 2 ^ 31 by omega)) ?_
    rw [nI_clamp (show u < 2 ^ 31 by omega)]
    refine br_c (fun q => ⟨pk_in u 256 (by omega), nm_r e1 (nm_e (ih k1 (by omega) p1 (by omega) ?_))⟩) (fun q => ⟨pk_in u 256 (by omega), nm_r e0 (nm_e (ih k0 (by omega) p0 (by omega) ?_))⟩)
    · rw [x1, y1, z1]
      exact hs r _ _ _ 1 (by omega) h4 (if_pos q).symm
    · rw [x0, y0, z0]
      exact hs r _ _ _ 0 (by omega) h4 (if_neg q).symm
/-- what the slots hold: slot sl (if sl < 3) one letter with the masks zc, oc, the others nothing -/
def wr_SP (sl : Nat) (zc oc : Int32) (a8 a9 a10 a11 a12 a13 : Nat → Int32) : Prop :=
  ∀ j, j < 3 → a10 j = 0 ∧ a13 (j * 12) = 0 ∧ (j = sl → a8 j = 1 ∧ a9 j = 1 ∧ a11 j = zc ∧ a12 j = oc) ∧ (j ≠ sl → a8 j = 0 ∧ a9 j = 0)
theorem wr_q0 : ∀ p, p < 12 → ¬ (((0 : Int32) >>> (nI p &&& 31)) &&& 1 = 1) := by decide +kernel
theorem wr_q4 : ∀ p, p < 12 → ¬ (((4096 : Int32) >>> (nI p &&& 31)) &&& 1 = 1) := by decide +kernel
theorem wr_q1 : ∀ p, p < 12 → ((1 : Int32) >>> (nI p &&& 31)) &&& 1 = 1 → p = 0 := by decide +kernel
theorem wr_st0 (j : Nat) : ∀ p, p ≤ 12 → wr_st a8 a13 j 0 p = 0 := by
  intro p
  induction p with
  | zero => intro _; exact if_pos (by decide)
  | succ p ih => intro h; exact (if_neg (wr_q0 p (by omega))).trans (ih (by omega))
theorem wr_st4 (j : Nat) : ∀ p, p ≤ 12 → wr_st a8 a13 j 4096 p = a8 j := by
  intro p
  induction p with
  | zero => intro _; exact if_neg (by decide)
  | succ p ih => intro h; exact (if_neg (wr_q4 p (by omega))).trans (ih (by omega))
theorem wr_st1 (j : Nat) (h13 : a13 (j * 12) = 0) : ∀ p, p ≤ 12 → wr_st a8 a13 j 1 p = 0 := by
  intro p
  induction p with
  | zero => intro _; exact if_pos (by decide)
  | succ p ih =>
    intro h
    have e := ih (by omega)
    by_cases q : ((1 : Int32) >>> (nI p &&& 31)) &&& 1 = 1
    · have p0 := wr_q1 p (by omega) q
      refine (if_pos q).trans ?_
      rw [e, p0, Nat.add_zero, h13]
      rfl
    · exact (if_neg q).trans e
theorem wr_z0 (x : Int32) : (0 : Int32) &&& x = 0 := Int32.zero_and
theorem wr_s0 (j : Nat) (c : Int32) : wr_step a8 a11 a12 a13 j 0 c = 0 := by
  unfold wr_step
  rw [wr_st0 j 12 (by omega), wr_z0, wr_z0]
  by_cases q : c = 0
  · exact if_pos q
  · exact if_neg q
theorem wr_s1 (j : Nat) (h13 : a13 (j * 12) = 0) (c : Int32) : wr_step a8 a11 a12 a13 j 1 c = 0 := by
  unfold wr_step
  rw [wr_st1 j h13 12 (by omega), wr_z0, wr_z0]
  by_cases q : c = 0
  · exact if_pos q
  · exact if_neg q
theorem wr_s4 {sl : Nat} {zc oc : Int32} (hz : zc = 0 ∨ zc = 1) (ho : oc = 0 ∨ oc = 1) (sp : wr_SP sl zc oc a8 a9 a10 a11 a12 a13) (j : Nat) (hj : j < 3) (c : Int32) : wr_step a8 a11 a12 a13 j 4096 c = if j = sl then (if c = 0 then zc else oc) else 0 := by
  obtain ⟨_, _, h1, h2⟩ := sp j hj
  unfold wr_step
  rw [wr_st4 j 12 (by omega)]
  by_cases e : j = sl
  · obtain ⟨e8, _, e11, e12⟩ := h1 e
    rw [if_pos e, e8, e11, e12]
    rcases hz with rfl | rfl <;> rcases ho with rfl | rfl <;> rfl
  · obtain ⟨e8, _⟩ := h2 e
    rw [if_neg e, e8, wr_z0, wr_z0]
    by_cases q : c = 0
    · exact if_pos q
    · exact if_neg q
/-- the sets at depth q, t the word's first letter -/
def wr_R (a8 a11 a12 a13 : Nat → Int32) (t : Int32) (q : Nat) (x y z : Int32) : Prop :=
  (q = 0 → x = 4096 ∧ y = 4096 ∧ z = 4096) ∧ (q = 1 → x = wr_step a8 a11 a12 a13 0 4096 t ∧ y = wr_step a8 a11 a12 a13 1 4096 t ∧ z = wr_step a8 a11 a12 a13 2 4096 t) ∧ (2 ≤ q → x = 0 ∧ y = 0 ∧ z = 0)
theorem wr_ss {sl : Nat} {zc oc : Int32} (hz : zc = 0 ∨ zc = 1) (ho : oc = 0 ∨ oc = 1) (sp : wr_SP sl zc oc a8 a9 a10 a11 a12 a13) (j : Nat) (hj : j < 3) (t c : Int32) : wr_step a8 a11 a12 a13 j (wr_step a8 a11 a12 a13 j 4096 t) c = 0 := by
  have h13 := (sp j hj).2.1
  rw [wr_s4 hz ho sp j hj t]
  have v : (if t = 0 then zc else oc) = 0 ∨ (if t = 0 then zc else oc) = 1 := by
    by_cases q : t = 0
    · rw [if_pos q]; exact hz
    · rw [if_neg q]; exact ho
  by_cases e : j = sl
  · rw [if_pos e]
    rcases v with v | v
    · rw [v]; exact wr_s0 j c
    · rw [v]; exact wr_s1 j h13 c
  · rw [if_neg e]; exact wr_s0 j c
/-- the index that a word of length q with first letter's mask v leads to -/
def wr_IX (sl q : Nat) (v : Int32) : Int32 := if q = 1 ∧ v = 1 then (if sl = 0 then 1 else if sl = 1 then 2 else if sl = 2 then 4 else 0) else 0
theorem wr_ix0 {x y z : Int32} (hx : x &&& a9 0 = 0) (hy : y &&& a9 1 = 0) (hz : z &&& a9 2 = 0) : wr_ix a9 x y z = 0 := by
  unfold wr_ix
  rw [if_pos hz, if_pos hy, if_pos hx]
theorem wr_ixR {sl q : Nat} {zc oc t x y z : Int32} (hz : zc = 0 ∨ zc = 1) (ho : oc = 0 ∨ oc = 1) (sp : wr_SP sl zc oc a8 a9 a10 a11 a12 a13) (r : wr_R a8 a11 a12 a13 t q x y z) : wr_ix a9 x y z = wr_IX sl q (if t = 0 then zc else oc) := by
  obtain ⟨r0, r1, r2⟩ := r
  have h9 : ∀ j, j < 3 → a9 j = 0 ∨ a9 j = 1 := by
    intro j hj
    by_cases e : j = sl
    · exact Or.inr ((sp j hj).2.2.1 e).2.1
    · exact Or.inl ((sp j hj).2.2.2 e).2
  by_cases q1 : q = 1
  · obtain ⟨ex, ey, ez⟩ := r1 q1
    rw [wr_s4 hz ho sp 0 (by omega) t] at ex
    rw [wr_s4 hz ho sp 1 (by omega) t] at ey
    rw [wr_s4 hz ho sp 2 (by omega) t] at ez
    have v : (if t = 0 then zc else oc) = 0 ∨ (if t = 0 then zc else oc) = 1 := by
      by_cases q : t = 0
      · rw [if_pos q]; exact hz
      · rw [if_neg q]; exact ho
    have k0 : (0 : Nat) ≠ sl → x &&& a9 0 = 0 := fun e => by rw [ex, if_neg e, wr_z0]
    have k1 : (1 : Nat) ≠ sl → y &&& a9 1 = 0 := fun e => by rw [ey, if_neg e, wr_z0]
    have k2 : (2 : Nat) ≠ sl → z &&& a9 2 = 0 := fun e => by rw [ez, if_neg e, wr_z0]
    rcases v with v | v
    · rw [v] at ex ey ez ⊢
      have i0 : x &&& a9 0 = 0 := by
        by_cases e : (0 : Nat) = sl
        · rw [ex, if_pos e, wr_z0]
        · exact k0 e
      have i1 : y &&& a9 1 = 0 := by
        by_cases e : (1 : Nat) = sl
        · rw [ey, if_pos e, wr_z0]
        · exact k1 e
      have i2 : z &&& a9 2 = 0 := by
        by_cases e : (2 : Nat) = sl
        · rw [ez, if_pos e, wr_z0]
        · exact k2 e
      rw [wr_ix0 i0 i1 i2]
      exact (if_neg (fun h => absurd h.2 (by decide))).symm
    · rw [v] at ex ey ez ⊢
      have ev : wr_IX sl q 1 = (if sl = 0 then 1 else if sl = 1 then 2 else if sl = 2 then 4 else 0) := if_pos ⟨q1, rfl⟩
      rw [ev]
      by_cases e0 : sl = 0
      · subst e0
        have n9 := ((sp 0 (by omega)).2.2.1 rfl).2.1
        rw [if_pos rfl] at ex ⊢
        unfold wr_ix
        rw [if_pos (k2 (by omega)), if_pos (k1 (by omega)), ex, n9]
        rfl
      · rw [if_neg e0]
        by_cases e1 : sl = 1
        · subst e1
          have n9 := ((sp 1 (by omega)).2.2.1 rfl).2.1
          rw [if_pos rfl] at ey ⊢
          unfold wr_ix
          rw [if_pos (k2 (by omega)), if_pos (k0 (by omega)), ey, n9]
          rfl
        · rw [if_neg e1]
          by_cases e2 : sl = 2
          · subst e2
            have n9 := ((sp 2 (by omega)).2.2.1 rfl).2.1
            rw [if_pos rfl] at ez ⊢
            unfold wr_ix
            rw [if_pos (k1 (by omega)), if_pos (k0 (by omega)), ez, n9]
            rfl
          · rw [if_neg e2]
            exact wr_ix0 (k0 (Ne.symm e0)) (k1 (Ne.symm e1)) (k2 (Ne.symm e2))
  · have e : wr_IX sl q (if t = 0 then zc else oc) = 0 := if_neg (fun h => q1 h.1)
    rw [e]
    by_cases q0 : q = 0
    · obtain ⟨ex, ey, ez⟩ := r0 q0
      have k : ∀ j, j < 3 → (4096 : Int32) &&& a9 j = 0 := by
        intro j hj
        rcases h9 j hj with h | h
        · rw [h]; rfl
        · rw [h]; rfl
      rw [ex, ey, ez]
      exact wr_ix0 (k 0 (by omega)) (k 1 (by omega)) (k 2 (by omega))
    · obtain ⟨ex, ey, ez⟩ := r2 (by omega)
      rw [ex, ey, ez]
      exact wr_ix0 (wr_z0 _) (wr_z0 _) (wr_z0 _)
theorem wr_wlk {post : Int32 → St2 → Prop} {sl l n : Nat} {zc oc bits t : Int32} (hn : n ≤ 7) (hl : l ≤ n) (hf : fr = 0) (hz : zc = 0 ∨ zc = 1) (ho : oc = 0 ∨ oc = 1) (sp : wr_SP sl zc oc a8 a9 a10 a11 a12 a13)
    (ht' : t = (if (bits >>> (nI (l - 1) &&& 31)) &&& 1 = 1 then 1 else 0))
    (H : ∀ (u N : Nat) (a14 a15 a16 a17 a18 a19 a20 : Nat → Int32), u < 256 → a20 u = wr_tb tb (wr_IX sl l (if t = 0 then zc else oc)) → post (nI u) (nI n, ht, pl, tb, 1, nI N, a1, a2, a3, a4, a5, a6, a7, a8, a9, a10, a11, a12, a13, a14, a15, a16, a17, a18, a19, a20, a21, a22)) :
    wpX_walk post (nI n, ht, pl, tb, fr, nd, a1, a2, a3, a4, a5, a6, a7, a8, a9, a10, a11, a12, a13, a14, a15, a16, a17, a18, a19, a20, a21, a22) (nI l) bits := by
  unfold wpX_walk
  dsimp only
  refine wr_bld hn (fun j hj => (sp j hj).1) hf ?_
  intro N L dp a14 a15 a16 a17 a18 a19 a20 hL hN g hk
  obtain ⟨g0, g1, g2, g3, g4⟩ := g.1
  refine nm_r (show nI l - 1 = nI l + (-1) by rw [Int32.sub_eq_add_neg]) ⟨l + 1, ?_⟩
  refine wr_w11 hl hn hN g hk (wr_R a8 a11 a12 a13 t) ?_ ?_ l 0 (Nat.le_refl l) g0 (by omega) ?_
  · intro r x y z c hr h hc
    obtain ⟨h0, h1, h2⟩ := h
    refine ⟨fun q => absurd q (by omega), fun q => ?_, fun q => ?_⟩
    · obtain ⟨ex, ey, ez⟩ := h0 (by omega)
      have er : r = l - 1 := by omega
      subst er
      rw [ex, ey, ez, hc, ht']
      exact ⟨rfl, rfl, rfl⟩
    · by_cases q1 : l - (r + 1) = 1
      · obtain ⟨ex, ey, ez⟩ := h1 q1
        rw [ex, ey, ez]
        exact ⟨wr_ss hz ho sp 0 (by omega) t c, wr_ss hz ho sp 1 (by omega) t c, wr_ss hz ho sp 2 (by omega) t c⟩
      · obtain ⟨ex, ey, ez⟩ := h2 (by omega)
        rw [ex, ey, ez]
        exact ⟨wr_s0 0 c, wr_s0 1 c, wr_s0 2 c⟩
  · intro u hu r
    refine H u N a14 a15 a16 a17 a18 a19 a20 (by omega) ?_
    rw [g.2.1 u hu]
    unfold wr_hit
    rw [wr_ixR hz ho sp r]
  · rw [Nat.sub_self]
    exact ⟨fun _ => ⟨g2, g3, g4⟩, fun q => absurd q (by omega), fun q => absurd q (by omega)⟩
theorem wr_isC {post : Int32 → St2 → Prop} {sl l n : Nat} {zc oc bits t : Int32} (hn : n ≤ 7) (hl : l ≤ n) (hb : 0 ≤ bits) (hb2 : ¬ (1 : Int32) <<< (nI l &&& 31) ≤ bits) (hf : fr = 0) (hz : zc = 0 ∨ zc = 1) (ho : oc = 0 ∨ oc = 1) (sp : wr_SP sl zc oc a8 a9 a10 a11 a12 a13)
    (ht' : t = (if (bits >>> (nI (l - 1) &&& 31)) &&& 1 = 1 then 1 else 0))
    (H : ∀ u, post (wr_tb tb (wr_IX sl l (if t = 0 then zc else oc))) u) :
    wpX_isChosen post (nI n, ht, pl, tb, fr, nd, a1, a2, a3, a4, a5, a6, a7, a8, a9, a10, a11, a12, a13, a14, a15, a16, a17, a18, a19, a20, a21, a22) (nI l) bits := by
  unfold wpX_isChosen wpX_valid
  dsimp only
  refine br_f (nI_pos (by omega)) (br_f (nI_nlt hl (by omega)) (br_t hb (br_f hb2 (br_f (by decide) ?_))))
  refine wr_wlk hn hl hf hz ho sp ht' ?_
  intro u N a14 a15 a16 a17 a18 a19 a20 hu e
  dsimp only
  rw [nI_clamp (show u < 2 ^ 31 by omega), e]
  refine ⟨pk_in u 256 hu, ?_⟩
  rcases wr_tb01 tb (wr_IX sl l (if t = 0 then zc else oc)) with h | h
  · have H' := H (nI n, ht, pl, tb, 1, nI N, a1, a2, a3, a4, a5, a6, a7, a8, a9, a10, a11, a12, a13, a14, a15, a16, a17, a18, a19, a20, a21, a22)
    rw [h] at H' ⊢
    exact br_t rfl H'
  · have H' := H (nI n, ht, pl, tb, 1, nI N, a1, a2, a3, a4, a5, a6, a7, a8, a9, a10, a11, a12, a13, a14, a15, a16, a17, a18, a19, a20, a21, a22)
    rw [h] at H' ⊢
    exact br_f (by decide) H'
theorem wr_isB {post : Int32 → St2 → Prop} {len bits : Int32} (hb : len < 0 ∨ lg < len ∨ bits < 0 ∨ (1 : Int32) <<< (len &&& 31) ≤ bits) (H : post (-1) (lg, ht, pl, tb, fr, nd, a1, a2, a3, a4, a5, a6, a7, a8, a9, a10, a11, a12, a13, a14, a15, a16, a17, a18, a19, a20, a21, a22)) : wpX_isChosen post (lg, ht, pl, tb, fr, nd, a1, a2, a3, a4, a5, a6, a7, a8, a9, a10, a11, a12, a13, a14, a15, a16, a17, a18, a19, a20, a21, a22) len bits := by
  unfold wpX_isChosen wpX_valid
  dsimp only
  refine br_c (fun _ => br_t rfl H) (fun q1 => br_c (fun _ => br_t rfl H) (fun q2 => br_c (fun q3 => br_c (fun _ => br_t rfl H) (fun q4 => ?_)) (fun _ => br_t rfl H)))
  rcases hb with h | h | h | h
  · exact absurd h q1
  · exact absurd h q2
  · exact absurd h (Int32.not_lt.mpr q3)
  · exact absurd h q4
end
end
section
section
variable {lg ht pl tb fr nd : Int32} {a1 a2 a3 a4 a5 a6 a7 a8 a9 a10 a11 a12 a13 a14 a15 a16 a17 a18 a19 a20 a21 a22 : Nat → Int32}
theorem wr_let {post : Int32 → St2 → Prop} {c : Int32} (h1 : ¬ c < 0) (h2 : c ≤ 2) (hh : ht = 0) (hp : pl = 0)
    (H : post 1 (lg, 1, 1, tb, fr, nd, upd a1 0 0, upd a2 0 1, upd a3 0 1, upd a4 0 0, upd a5 0 c, upd a6 0 0, a7, a8, a9, a10, a11, a12, a13, a14, a15, a16, a17, a18, a19, a20, a21, a22)) : wpX_letter post (lg, ht, pl, tb, fr, nd, a1, a2, a3, a4, a5, a6, a7, a8, a9, a10, a11, a12, a13, a14, a15, a16, a17, a18, a19, a20, a21, a22) c := by
  subst hh hp
  refine br_f h1 (br_t h2 (br_f (by decide) (br_f (by decide) (nm_r (show (1 : Int32) <<< ((0 : Int32) &&& 31) = 1 by decide) ?_))))
  refine ⟨pk_in 0 8 (by omega), nm_e ⟨pk_in 0 8 (by omega), nm_e ⟨pk_in 0 8 (by omega), nm_e ⟨pk_in 0 8 (by omega), nm_e (nm_r (show (0 : Int32) + 1 = 1 by decide) ?_)⟩⟩⟩⟩
  exact ⟨pk_in 0 12 (by omega), nm_e ⟨pk_in 0 12 (by omega), nm_e (nm_r (show (0 : Int32) + 1 = 1 by decide) H)⟩⟩
theorem wr_leB {post : Int32 → St2 → Prop} {c : Int32} (h : c < 0 ∨ ¬ c ≤ 2) (H : post (-1) (lg, ht, pl, tb, fr, nd, a1, a2, a3, a4, a5, a6, a7, a8, a9, a10, a11, a12, a13, a14, a15, a16, a17, a18, a19, a20, a21, a22)) : wpX_letter post (lg, ht, pl, tb, fr, nd, a1, a2, a3, a4, a5, a6, a7, a8, a9, a10, a11, a12, a13, a14, a15, a16, a17, a18, a19, a20, a21, a22) c :=
  br_c (fun _ => H) (fun q => br_c (fun q2 => absurd h (fun z => z.elim q (fun y => y q2))) (fun _ => H))
theorem wr_turn {post : St2 → Prop} {x : Nat} (hx : x < 12) (h6 : a6 x = 0) (H : post (lg, ht, pl, tb, fr, nd, a1, a2, a3, a4, a5, a6, a7, a8, a9, a10, a11, a12, a13, a14, a15, a16, a17, a18, a19, a20, a21, a22)) : wpX_turn post (lg, ht, pl, tb, fr, nd, a1, a2, a3, a4, a5, a6, a7, a8, a9, a10, a11, a12, a13, a14, a15, a16, a17, a18, a19, a20, a21, a22) (nI x) := by
  unfold wpX_turn
  refine pk_loop (σ := Unit) (fun n i _ => wX_turn_2 post (nI x) lg ht pl tb fr nd n (nI i) a1 a2 a3 a4 a5 a6 a7 a8 a9 a10 a11 a12 a13 a14 a15 a16 a17 a18 a19 a20 a21 a22) (fun _ _ => True) 12 0 () (by omega) trivial ?_ ?_
  · intro n _ _
    exact pk_le 12 12 (fun _ => H) (fun q => absurd q (by omega))
  · intro n i _ hi _ hw
    refine pk_le 12 i (fun q => absurd q (by omega)) (fun _ => ?_)
    rw [nI_clamp (show x < 2 ^ 31 by omega), h6]
    exact ⟨pk_in x 12 hx, br_f (wr_q0 i hi) (nm_r (nI_1 i) (hw () trivial))⟩
theorem wr_r72 {post : Int32 → St2 → Prop} (h7 : a7 0 = 0)
    (H : ∀ b2 b3 b6 b7 : Nat → Int32, b2 0 = a3 0 → b3 0 = a2 0 → b6 0 = 0 → post 1 (lg, 1, 1, tb, fr, nd, a1, b2, b3, a4, a5, b6, b7, a8, a9, a10, a11, a12, a13, a14, a15, a16, a17, a18, a19, a20, a21, a22)) : wX_reverse_72 post 0 lg 1 1 tb fr nd 2 0 a1 a2 a3 a4 a5 a6 a7 a8 a9 a10 a11 a12 a13 a14 a15 a16 a17 a18 a19 a20 a21 a22 := by
  refine br_f (by decide) ⟨pk_in 0 12 (by omega), pk_in 0 12 (by omega), nm_e (nm_r (show (0 : Int32) + 1 = 1 by decide) ?_)⟩
  refine br_t (by decide) ⟨pk_in 0 8 (by omega), nm_e ⟨pk_in 0 8 (by omega), pk_in 0 8 (by omega), nm_e ⟨pk_in 0 8 (by omega), nm_e ?_⟩⟩⟩
  rw [sb_cl0]
  exact H _ _ _ a7 pk_us pk_us (pk_us.trans h7)
theorem wr_r46 {post : Int32 → St2 → Prop} (h1 : a1 0 = 0) (h6 : a6 0 = 0) (h7 : a7 0 = 0)
    (H : ∀ b2 b3 b6 b7 : Nat → Int32, b2 0 = a3 0 → b3 0 = a2 0 → b6 0 = 0 → post 1 (lg, 1, 1, tb, fr, nd, a1, b2, b3, a4, a5, b6, b7, a8, a9, a10, a11, a12, a13, a14, a15, a16, a17, a18, a19, a20, a21, a22)) : wX_reverse_46 post 0 2 0 lg 1 1 tb fr nd a1 a2 a3 a4 a5 a6 a7 a8 a9 a10 a11 a12 a13 a14 a15 a16 a17 a18 a19 a20 a21 a22 := by
  refine br_f (by decide) (wr_turn (x := 0) (by omega) h6 (nm_r (show (0 : Int32) + 1 = 1 by decide) ?_))
  exact br_t (by decide) ⟨pk_in 0 8 (by omega), nm_r (show a1 (0 : Int32).toNatClampNeg = 0 from h1) ⟨2, wr_r72 h7 H⟩⟩
theorem wr_rev {post : Int32 → St2 → Prop} (hh : ht = 1) (hp : pl = 1) (h1 : a1 0 = 0) (h6 : a6 0 = 0)
    (H : ∀ b2 b3 b6 b7 : Nat → Int32, b2 0 = a3 0 → b3 0 = a2 0 → b6 0 = 0 → post 1 (lg, 1, 1, tb, fr, nd, a1, b2, b3, a4, a5, b6, b7, a8, a9, a10, a11, a12, a13, a14, a15, a16, a17, a18, a19, a20, a21, a22)) : wpX_reverse post (lg, ht, pl, tb, fr, nd, a1, a2, a3, a4, a5, a6, a7, a8, a9, a10, a11, a12, a13, a14, a15, a16, a17, a18, a19, a20, a21, a22) := by
  subst hh hp
  refine br_t (by decide) (nm_r (show (1 : Int32) - 1 = 0 by decide) ?_)
  refine pk_loop (fun n i s => wX_reverse_20 post 0 lg 1 1 tb fr nd n (nI i) a1 a2 a3 a4 a5 a6 s a8 a9 a10 a11 a12 a13 a14 a15 a16 a17 a18 a19 a20 a21 a22) (fun i s => ∀ j, j < i → s j = 0) 12 0 a7 (by omega) (fun j hj => absurd hj (by omega)) ?_ ?_
  · intro n s hs
    exact pk_le 12 12 (fun _ => ⟨pk_in 0 8 (by omega), nm_r (show a1 (0 : Int32).toNatClampNeg = 0 from h1) ⟨2, wr_r46 h1 h6 (hs 0 (by omega)) H⟩⟩) (fun q => absurd q (by omega))
  · intro n i s hi hs hw
    refine pk_le 12 i (fun q => absurd q (by omega)) (fun _ => ?_)
    rw [nI_clamp (show i < 2 ^ 31 by omega)]
    refine ⟨pk_in i 12 hi, nm_e (nm_r (nI_1 i) (hw _ ?_))⟩
    intro j hj
    by_cases e : j = i
    · rw [e, pk_us]
    · rw [pk_un e]
      exact hs j (by omega)
theorem wr_reB {post : Int32 → St2 → Prop} (hh : ht = 0) (H : post (-3) (lg, ht, pl, tb, fr, nd, a1, a2, a3, a4, a5, a6, a7, a8, a9, a10, a11, a12, a13, a14, a15, a16, a17, a18, a19, a20, a21, a22)) : wpX_reverse post (lg, ht, pl, tb, fr, nd, a1, a2, a3, a4, a5, a6, a7, a8, a9, a10, a11, a12, a13, a14, a15, a16, a17, a18, a19, a20, a21, a22) := by
  subst hh
  exact br_f (by decide) H
theorem wr_s161 {post : Int32 → St2 → Prop} {J : Int32 → (Nat → Int32) → (Nat → Int32) → (Nat → Int32) → (Nat → Int32) → (Nat → Int32) → (Nat → Int32) → (Nat → Int32) → (Nat → Int32) → (Nat → Int32) → (Nat → Int32) → (Nat → Int32) → (Nat → Int32) → (Nat → Int32) → (Nat → Int32) → (Nat → Int32) → (Nat → Int32) → (Nat → Int32) → (Nat → Int32) → (Nat → Int32) → (Nat → Int32) → (Nat → Int32) → (Nat → Int32) → Prop} {s : Nat} (hs : s < 3) (h6 : a6 0 = 0) (H : J 1 a1 a2 a3 a4 a5 a6 a7 a8 a9 a10 a11 a12 (upd a13 (s * 12) 0) a14 a15 a16 a17 a18 a19 a20 a21 a22) : wX_store_161 post J (nI s) 0 0 0 lg ht pl tb fr nd a1 a2 a3 a4 a5 a6 a7 a8 a9 a10 a11 a12 a13 a14 a15 a16 a17 a18 a19 a20 a21 a22 := by
  have ei : nI s * 12 + 0 - 0 = nI (s * 12) := by
    rw [show (12 : Int32) = nI 12 from rfl, pk_mul, Int32.add_zero, Int32.sub_zero]
  unfold wX_store_161
  rw [ei, nI_clamp (show s * 12 < 2 ^ 31 by omega), sb_cl0, h6]
  exact ⟨pk_in 0 12 (by omega), pk_in (s * 12) 36 (by omega), nm_r (show upd a13 (s * 12) ((0 : Int32) >>> ((0 : Int32) &&& 31)) = upd a13 (s * 12) 0 from rfl) (nm_r (show (0 : Int32) + 1 = 1 by decide) H)⟩
theorem wr_s136 {post : Int32 → St2 → Prop} {J : Int32 → (Nat → Int32) → (Nat → Int32) → (Nat → Int32) → (Nat → Int32) → (Nat → Int32) → (Nat → Int32) → (Nat → Int32) → (Nat → Int32) → (Nat → Int32) → (Nat → Int32) → (Nat → Int32) → (Nat → Int32) → (Nat → Int32) → (Nat → Int32) → (Nat → Int32) → (Nat → Int32) → (Nat → Int32) → (Nat → Int32) → (Nat → Int32) → (Nat → Int32) → (Nat → Int32) → (Nat → Int32) → Prop} {s : Nat} {c : Int32} (hs : s < 3) (h5 : a5 0 = c) (h6 : a6 0 = 0) (h12 : a12 s = 0)
    (H : ∀ b12 : Nat → Int32, b12 s = (if c = 0 then 0 else 1) → J 1 a1 a2 a3 a4 a5 a6 a7 a8 a9 a10 a11 b12 (upd a13 (s * 12) 0) a14 a15 a16 a17 a18 a19 a20 a21 a22) : wX_store_136 post J (nI s) 0 0 0 1 lg ht pl tb fr nd a1 a2 a3 a4 a5 a6 a7 a8 a9 a10 a11 a12 a13 a14 a15 a16 a17 a18 a19 a20 a21 a22 := by
  unfold wX_store_136
  rw [sb_cl0, h5, nI_clamp (show s < 2 ^ 31 by omega), h12]
  refine ⟨pk_in 0 12 (by omega), br_c (fun q => ?_) (fun q => ⟨pk_in s 3 hs, pk_in s 3 hs, nm_e ?_⟩)⟩
  · exact wr_s161 hs h6 (H a12 (by rw [h12, if_pos q]))
  · exact wr_s161 hs h6 (H _ (by rw [pk_us, if_neg q]; rfl))
theorem wr_s93 {post : Int32 → St2 → Prop} {s : Nat} {c : Int32} (hs : s < 3) (h5 : a5 0 = c) (h6 : a6 0 = 0) (h11 : a11 s = 0) (h12 : a12 s = 0)
    (H : ∀ b11 b12 : Nat → Int32, b11 s = (if c = 1 then 0 else 1) → b12 s = (if c = 0 then 0 else 1) → post 0 (lg, 0, 0, tb, 0, nd, a1, a2, a3, a4, a5, a6, a7, a8, a9, a10, b11, b12, upd a13 (s * 12) 0, a14, a15, a16, a17, a18, a19, a20, a21, a22)) :
    wX_store_93 post (nI s) 0 0 lg 1 1 tb fr nd 2 0 a1 a2 a3 a4 a5 a6 a7 a8 a9 a10 a11 a12 a13 a14 a15 a16 a17 a18 a19 a20 a21 a22 := by
  have E : ∀ b11 b12 : Nat → Int32, b11 s = (if c = 1 then 0 else 1) → b12 s = (if c = 0 then 0 else 1) → wX_store_93 post (nI s) 0 0 lg 1 1 tb fr nd 1 1 a1 a2 a3 a4 a5 a6 a7 a8 a9 a10 b11 b12 (upd a13 (s * 12) 0) a14 a15 a16 a17 a18 a19 a20 a21 a22 :=
    fun b11 b12 e1 e2 => br_t (by decide) (H b11 b12 e1 e2)
  refine br_f (by decide) (nm_r (show (1 : Int32) <<< (((0 : Int32) - 0) &&& 31) = 1 by decide) ⟨pk_in 0 12 (by omega), ?_⟩)
  rw [sb_cl0, h5, nI_clamp (show s < 2 ^ 31 by omega), h11]
  refine br_c (fun q => ?_) (fun q => ⟨pk_in s 3 hs, pk_in s 3 hs, nm_e ?_⟩)
  · exact wr_s136 hs h5 h6 h12 (fun b12 e => E a11 b12 (by rw [h11, if_pos q]) e)
  · exact wr_s136 hs h5 h6 h12 (fun b12 e => E _ b12 (by rw [pk_us, if_neg q]; rfl) e)
theorem wr_sto {post : Int32 → St2 → Prop} {s : Nat} {c : Int32} (hs : s < 3) (hh : ht = 1) (hp : pl = 1) (h1 : a1 0 = 0) (h2 : a2 0 = 1) (h3 : a3 0 = 1) (h4 : a4 0 = 0) (h5 : a5 0 = c) (h6 : a6 0 = 0)
    (H : ∀ b11 b12 : Nat → Int32, b11 s = (if c = 1 then 0 else 1) → b12 s = (if c = 0 then 0 else 1) → post 0 (lg, 0, 0, tb, 0, nd, a1, a2, a3, a4, a5, a6, a7, upd a8 s 1, upd a9 s 1, upd a10 s 0, b11, b12, upd a13 (s * 12) 0, a14, a15, a16, a17, a18, a19, a20, a21, a22)) :
    wpX_store post (lg, ht, pl, tb, fr, nd, a1, a2, a3, a4, a5, a6, a7, a8, a9, a10, a11, a12, a13, a14, a15, a16, a17, a18, a19, a20, a21, a22) (nI s) := by
  subst hh hp
  refine br_f (nI_pos (by omega)) (br_t (nI_le (b := 2) (by omega) (by omega)) (br_t (by decide) (nm_r (show (1 : Int32) - 1 = 0 by decide) ?_)))
  refine ⟨pk_in 0 8 (by omega), nm_r (show a1 (0 : Int32).toNatClampNeg = 0 from h1) ?_⟩
  rw [sb_cl0, h2, h3, h4, nI_clamp (show s < 2 ^ 31 by omega)]
  refine ⟨pk_in 0 8 (by omega), pk_in s 3 hs, nm_r (e' := upd a8 s 1) rfl ⟨pk_in 0 8 (by omega), pk_in s 3 hs, nm_r (e' := upd a9 s 1) rfl ⟨pk_in 0 8 (by omega), pk_in s 3 hs, nm_r (e' := upd a10 s 0) rfl ⟨pk_in s 3 hs, nm_e ⟨pk_in s 3 hs, nm_e ⟨2, ?_⟩⟩⟩⟩⟩⟩
  exact wr_s93 hs h5 h6 pk_us pk_us H
theorem wr_stB {post : Int32 → St2 → Prop} {s : Int32} (h : s < 0 ∨ ¬ s ≤ 2) (H : post (-1) (lg, ht, pl, tb, fr, nd, a1, a2, a3, a4, a5, a6, a7, a8, a9, a10, a11, a12, a13, a14, a15, a16, a17, a18, a19, a20, a21, a22)) : wpX_store post (lg, ht, pl, tb, fr, nd, a1, a2, a3, a4, a5, a6, a7, a8, a9, a10, a11, a12, a13, a14, a15, a16, a17, a18, a19, a20, a21, a22) s :=
  br_c (fun _ => H) (fun q => br_c (fun q2 => absurd h (fun z => z.elim q (fun y => y q2))) (fun _ => H))
theorem wr_stF {post : Int32 → St2 → Prop} {s : Int32} (h1 : ¬ s < 0) (h2 : s ≤ 2) (hh : ht = 0) (H : post (-3) (lg, ht, pl, tb, fr, nd, a1, a2, a3, a4, a5, a6, a7, a8, a9, a10, a11, a12, a13, a14, a15, a16, a17, a18, a19, a20, a21, a22)) : wpX_store post (lg, ht, pl, tb, fr, nd, a1, a2, a3, a4, a5, a6, a7, a8, a9, a10, a11, a12, a13, a14, a15, a16, a17, a18, a19, a20, a21, a22) s := by
  subst hh
  exact br_f h1 (br_t h2 (br_f (by decide) H))
theorem wr_chs {post : Int32 → St2 → Prop} {t : Int32} (hf : fr = 0)
    (H : ∀ tb', tb' = (if t < 0 then tb else if 255 < t then tb else t) → post (if t < 0 then -1 else if 255 < t then -1 else tb) (lg, ht, pl, tb', fr, nd, a1, a2, a3, a4, a5, a6, a7, a8, a9, a10, a11, a12, a13, a14, a15, a16, a17, a18, a19, a20, a21, a22)) : wpX_choose post (lg, ht, pl, tb, fr, nd, a1, a2, a3, a4, a5, a6, a7, a8, a9, a10, a11, a12, a13, a14, a15, a16, a17, a18, a19, a20, a21, a22) t := by
  have H' := H _ rfl
  refine br_c (fun q => ?_) (fun q => br_c (fun q2 => ?_) (fun q2 => ?_))
  · rw [if_pos q, if_pos q] at H'
    exact H'
  · have q3 : ¬ 255 < t := Int32.not_lt.mpr q2
    rw [if_neg q, if_neg q, if_neg q3, if_neg q3, hf] at H'
    exact H'
  · have q3 : 255 < t := Int32.not_le.mp q2
    rw [if_neg q, if_neg q, if_pos q3, if_pos q3] at H'
    exact H'
theorem wr_ini {post : St2 → Prop} {n : Nat} {x : Int32} (h : (x = nI n ∧ 1 ≤ n ∧ n ≤ 7) ∨ (¬ 1 ≤ x ∧ n = 1) ∨ (¬ x ≤ 7 ∧ n = 7))
    (H : post (nI n, 0, 0, 170, 0, 0, (fun _ => 0), (fun _ => 0), (fun _ => 0), (fun _ => 0), (fun _ => 0), (fun _ => 0), (fun _ => 0), (fun _ => 0), (fun _ => 0), (fun _ => 0), (fun _ => 0), (fun _ => 0), (fun _ => 0), (fun _ => 0), (fun _ => 0), (fun _ => 0), (fun _ => 0), (fun _ => 0), (fun _ => 0), (fun _ => 0), (fun _ => 0), (fun _ => 0))) : wpX_init post 22 2177 (0, 0, 0, 0, 0, 0) x := by
  have K : (1 ≤ x → wX_init_192 post 22 2177 x 22 2177 0 0 0 0 0 0 (fun _ => 0) (fun _ => 0) (fun _ => 0) (fun _ => 0) (fun _ => 0) (fun _ => 0) (fun _ => 0) (fun _ => 0) (fun _ => 0) (fun _ => 0) (fun _ => 0) (fun _ => 0) (fun _ => 0) (fun _ => 0) (fun _ => 0) (fun _ => 0) (fun _ => 0) (fun _ => 0) (fun _ => 0) (fun _ => 0) (fun _ => 0) (fun _ => 0)) ∧ (¬ 1 ≤ x → wX_init_192 post 22 2177 1 22 2177 0 0 0 0 0 0 (fun _ => 0) (fun _ => 0) (fun _ => 0) (fun _ => 0) (fun _ => 0) (fun _ => 0) (fun _ => 0) (fun _ => 0) (fun _ => 0) (fun _ => 0) (fun _ => 0) (fun _ => 0) (fun _ => 0) (fun _ => 0) (fun _ => 0) (fun _ => 0) (fun _ => 0) (fun _ => 0) (fun _ => 0) (fun _ => 0) (fun _ => 0) (fun _ => 0)) := by
    rcases h with ⟨rfl, h1, h2⟩ | ⟨h, rfl⟩ | ⟨h, rfl⟩
    · exact br_t (nI_le (a := 1) h1 (by omega)) (br_t (nI_le (b := 7) h2 (by omega)) H)
    · exact br_f h (br_t (by decide) H)
    · refine br_t ?_ (br_f h H)
      have q : (7 : Int32) < x := Int32.not_le.mp h
      exact Int32.le_of_lt (Int32.lt_trans (show (1 : Int32) < 7 by decide) q)
  unfold wpX_init
  refine ⟨?_, ?_, ?_, ?_, ?_, ?_, ?_, ?_, ?_, ?_, ?_, ?_, ?_, ?_, ?_, ?_, ?_, ?_, ?_, ?_, ?_, ?_, ?_, ?_, ?_, ?_, ?_, ?_, ?_, ?_, ?_, ?_, ?_, ?_, ?_, ?_, ?_, ?_, ?_, ?_, ?_, ?_, ?_, ?_, K⟩ <;> omega
end
end
section
section
variable {post : Int32 → St0 → Prop} {mc ms kc ks : Nat} {x1 x2 x3 x4 x5 x6 x7 x8 x10 x11 x12 x13 x14 x15 x16 x17 x19 x20 x21 z0 z1 : Int32}
theorem wr_t373 (h : post 1 ()) (e : z1 = z0) : wL_lawOf_373 post mc ms z0 z1 kc ks := br_t e h
theorem wr_t352 (h : post 1 ()) (e : z1 = z0) (e17 : x17 = (if x21 = 0 then -1 else (x20 >>> (x19 &&& 31)) &&& 1)) : wL_lawOf_352 post mc ms x17 x19 x20 x21 z0 z1 kc ks :=
  br_t e (br_c (fun q => wr_t373 h (by rw [e17, if_pos q])) (fun q => wr_t373 h (by rw [e17, if_neg q])))
theorem wr_t322 (h : post 1 ()) (e : z1 = z0) (e15 : x15 = x14) (e16 : x16 = (if x3 < 0 then -1 else if 255 < x3 then -1 else 170)) (e17 : x17 = (if x21 = 0 then -1 else (x20 >>> (x19 &&& 31)) &&& 1)) : wL_lawOf_322 post mc ms x3 x14 x15 x16 x17 x19 x20 x21 z0 z1 kc ks :=
  br_t e (br_t e15 (br_c (fun q => wr_t352 h (by rw [e16, if_pos q]) e17) (fun q => br_c (fun q2 => wr_t352 h (by rw [e16, if_neg q, if_pos q2]) e17) (fun q2 => wr_t352 h (by rw [e16, if_neg q, if_neg q2]) e17))))
theorem wr_t302 (h : post 1 ()) (e : z1 = z0) (e14 : x14 = (if x7 = 0 then 0 else if x8 = 0 then 1 else 0)) (e15 : x15 = x14) (e16 : x16 = (if x3 < 0 then -1 else if 255 < x3 then -1 else 170)) (e17 : x17 = (if x21 = 0 then -1 else (x20 >>> (x19 &&& 31)) &&& 1)) : wL_lawOf_302 post mc ms x3 x7 x8 x14 x15 x16 x17 x19 x20 x21 z0 z1 kc ks :=
  br_t e (br_c (fun q => wr_t322 h (by rw [e14, if_pos q]) e15 e16 e17) (fun q => br_c (fun q2 => wr_t322 h (by rw [e14, if_neg q, if_pos q2]) e15 e16 e17) (fun q2 => wr_t322 h (by rw [e14, if_neg q, if_neg q2]) e15 e16 e17)))
theorem wr_t277 (h : post 1 ()) (e : z1 = z0) (e13 : x13 = (if x8 = 0 then -1 else if x7 = 0 then -3 else 0)) (e14 : x14 = (if x7 = 0 then 0 else if x8 = 0 then 1 else 0)) (e15 : x15 = x14) (e16 : x16 = (if x3 < 0 then -1 else if 255 < x3 then -1 else 170)) (e17 : x17 = (if x21 = 0 then -1 else (x20 >>> (x19 &&& 31)) &&& 1)) : wL_lawOf_277 post mc ms x3 x7 x8 x13 x14 x15 x16 x17 x19 x20 x21 z0 z1 kc ks :=
  br_t e (br_c (fun q => wr_t302 h (by rw [e13, if_pos q]) e14 e15 e16 e17) (fun q => br_c (fun q2 => wr_t302 h (by rw [e13, if_neg q, if_pos q2]) e14 e15 e16 e17) (fun q2 => wr_t302 h (by rw [e13, if_neg q, if_neg q2]) e14 e15 e16 e17)))
/-- what the law's seven first answers are -/
def wr_A (x3 x7 x8 x10 x11 x12 x13 x14 x15 x16 : Int32) : Prop :=
  x10 = (if x7 = 0 then -1 else 1) ∧ x11 = (if x7 = 0 then -3 else 1) ∧ x12 = (if x7 = 0 then 0 else 1) ∧ x13 = (if x8 = 0 then -1 else if x7 = 0 then -3 else 0) ∧ x14 = (if x7 = 0 then 0 else if x8 = 0 then 1 else 0) ∧ x15 = x14 ∧ x16 = (if x3 < 0 then -1 else if 255 < x3 then -1 else 170)
theorem wr_t232 (h : post 1 ()) (a : wr_A x3 x7 x8 x10 x11 x12 x13 x14 x15 x16) (e17 : x17 = (if z0 = 0 then -1 else (x20 >>> (x19 &&& 31)) &&& 1)) : wL_lawOf_232 post mc ms x3 x7 x8 x10 x11 x12 x13 x14 x15 x16 x17 x19 x20 z0 kc ks := by
  obtain ⟨e10, e11, e12, e13, e14, e15, e16⟩ := a
  refine br_c (fun q => ?_) (fun q => ?_)
  · exact br_t (by rw [e10, if_pos q]) (br_t q (br_t (by rw [e11, if_pos q]) (br_t q (wr_t277 h (by rw [e12, if_pos q]) e13 e14 e15 e16 e17))))
  · exact br_t (by rw [e10, if_neg q]) (br_f q (br_t (by rw [e11, if_neg q]) (br_f q (wr_t277 h (by rw [e12, if_neg q]) e13 e14 e15 e16 e17))))
/-- the law's own 'valid' -/
def wr_V (x4 x5 x6 : Int32) : Prop := ¬ x4 < 0 ∧ ¬ x6 < x4 ∧ ¬ x5 < 0 ∧ ¬ (1 : Int32) <<< ((x4 &&& 7) &&& 31) ≤ x5
theorem wr_t196 (h : post 1 ()) (a : wr_A x3 x7 x8 x10 x11 x12 x13 x14 x15 x16) (ev : wr_V x4 x5 x6 → x17 = (z0 >>> (x19 &&& 31)) &&& 1) (en : ¬ wr_V x4 x5 x6 → x17 = -1) : wL_lawOf_196 post mc ms x3 x4 x5 x6 x7 x8 x10 x11 x12 x13 x14 x15 x16 x17 x19 z0 kc ks := by
  have hn : ¬ wr_V x4 x5 x6 → wL_lawOf_231 post mc ms x3 x7 x8 x10 x11 x12 x13 x14 x15 x16 x17 x19 z0 kc ks := fun v => wr_t232 h a ((en v).trans (if_pos rfl).symm)
  refine br_c (fun q => hn (fun v => v.1 q)) (fun q1 => br_c (fun q => hn (fun v => v.2.1 q)) (fun q2 => br_c (fun q => hn (fun v => v.2.2.1 q)) (fun q3 => br_c (fun q => hn (fun v => v.2.2.2 q)) (fun q4 => ?_))))
  exact wr_t232 h a ((ev ⟨q1, q2, q3, q4⟩).trans (if_neg (by decide)).symm)
theorem wr_t176 (h : post 1 ()) (a : wr_A x3 x7 x8 x10 x11 x12 x13 x14 x15 x16) (ev : wr_V x4 x5 x6 → x17 = ((if x3 < 0 then 170 else if 255 < x3 then 170 else x3) >>> (z0 &&& 31)) &&& 1) (en : ¬ wr_V x4 x5 x6 → x17 = -1) : wL_lawOf_176 post mc ms x3 x4 x5 x6 x7 x8 x10 x11 x12 x13 x14 x15 x16 x17 z0 kc ks := by
  refine br_c (fun q => ?_) (fun q => br_c (fun q2 => ?_) (fun q2 => ?_))
  · rw [if_pos q] at ev
    exact wr_t196 h a ev en
  · rw [if_neg q, if_pos q2] at ev
    exact wr_t196 h a ev en
  · rw [if_neg q, if_neg q2] at ev
    exact wr_t196 h a ev en
theorem wr_t160 (h : post 1 ()) (a : wr_A x3 x7 x8 x10 x11 x12 x13 x14 x15 x16) (ev : wr_V x4 x5 x6 → x17 = ((if x3 < 0 then 170 else if 255 < x3 then 170 else x3) >>> ((if z0 = 0 then 0 else (1 : Int32) <<< ((x2 &&& 3) &&& 31)) &&& 31)) &&& 1) (en : ¬ wr_V x4 x5 x6 → x17 = -1) : wL_lawOf_160 post mc ms x2 x3 x4 x5 x6 x7 x8 x10 x11 x12 x13 x14 x15 x16 x17 z0 kc ks := by
  refine br_c (fun q => ?_) (fun q => ?_)
  · rw [if_pos q] at ev
    exact wr_t176 h a ev en
  · rw [if_neg q] at ev
    exact wr_t176 h a ev en
/-- the law's 'there' -/
def wr_H (x1 x4 x5 x7 x8 : Int32) : Prop := ¬ x7 = 0 ∧ ¬ x8 = 0 ∧ x4 = 1 ∧ (x1 = 2 ∨ x5 = x1)
/-- all that stands behind the law's last call -/
def wr_Q (post : Int32 → St0 → Prop) (mc ms : Nat) (x1 x2 x3 x4 x5 x6 x7 z0 x10 x11 x12 x13 x14 x15 x16 x17 : Int32) (kc ks : Nat) : Prop :=
  (x7 = 0 → wL_lawOf_159 post mc ms x2 x3 x4 x5 x6 x7 z0 x10 x11 x12 x13 x14 x15 x16 x17 kc ks) ∧ (¬ x7 = 0 → (z0 = 0 → wL_lawOf_159 post mc ms x2 x3 x4 x5 x6 x7 z0 x10 x11 x12 x13 x14 x15 x16 x17 kc ks) ∧ (¬ z0 = 0 → (x4 = 1 → (x1 = 2 → wL_lawOf_155 post mc ms x2 x3 x4 x5 x6 x7 z0 x10 x11 x12 x13 x14 x15 x16 x17 kc ks) ∧ (¬ x1 = 2 → (x5 = x1 → wL_lawOf_155 post mc ms x2 x3 x4 x5 x6 x7 z0 x10 x11 x12 x13 x14 x15 x16 x17 kc ks) ∧ (¬ x5 = x1 → wL_lawOf_159 post mc ms x2 x3 x4 x5 x6 x7 z0 x10 x11 x12 x13 x14 x15 x16 x17 kc ks))) ∧ (¬ x4 = 1 → wL_lawOf_159 post mc ms x2 x3 x4 x5 x6 x7 z0 x10 x11 x12 x13 x14 x15 x16 x17 kc ks)))
theorem wr_tQ (h : post 1 ()) (a : wr_A x3 x7 z0 x10 x11 x12 x13 x14 x15 x16)
    (eh : wr_V x4 x5 x6 → wr_H x1 x4 x5 x7 z0 → x17 = ((if x3 < 0 then 170 else if 255 < x3 then 170 else x3) >>> (((1 : Int32) <<< ((x2 &&& 3) &&& 31)) &&& 31)) &&& 1)
    (eo : wr_V x4 x5 x6 → ¬ wr_H x1 x4 x5 x7 z0 → x17 = ((if x3 < 0 then 170 else if 255 < x3 then 170 else x3) >>> ((0 : Int32) &&& 31)) &&& 1)
    (en : ¬ wr_V x4 x5 x6 → x17 = -1) : wr_Q post mc ms x1 x2 x3 x4 x5 x6 x7 z0 x10 x11 x12 x13 x14 x15 x16 x17 kc ks := by
  have t : wr_H x1 x4 x5 x7 z0 → wL_lawOf_155 post mc ms x2 x3 x4 x5 x6 x7 z0 x10 x11 x12 x13 x14 x15 x16 x17 kc ks := by
    intro w
    refine wr_t160 h a (fun v => ?_) en
    rw [if_neg (show ¬ (1 : Int32) = 0 by decide)]
    exact eh v w
  have f : ¬ wr_H x1 x4 x5 x7 z0 → wL_lawOf_159 post mc ms x2 x3 x4 x5 x6 x7 z0 x10 x11 x12 x13 x14 x15 x16 x17 kc ks := by
    intro w
    refine wr_t160 h a (fun v => ?_) en
    rw [if_pos rfl]
    exact eo v w
  exact br_c (fun q => f (fun w => w.1 q)) (fun q1 => br_c (fun q => f (fun w => w.2.1 q)) (fun q2 => br_c (fun q3 => br_c (fun q => t ⟨q1, q2, q3, Or.inl q⟩) (fun q4 => br_c (fun q => t ⟨q1, q2, q3, Or.inr q⟩) (fun q5 => f (fun w => w.2.2.2.elim q4 q5)))) (fun q => f (fun w => q w.2.2.1))))
end
end
section
section
variable {lg ht pl tb fr nd : Int32} {a1 a2 a3 a4 a5 a6 a7 a8 a9 a10 a11 a12 a13 a14 a15 a16 a17 a18 a19 a20 a21 a22 : Nat → Int32}
theorem wr_tbv (tb i : Int32) : wr_tb tb i = (tb >>> (i &&& 31)) &&& 1 := by
  unfold wr_tb
  obtain ⟨j, hj, e⟩ := pk_andE (tb >>> (i &&& 31)) (m := 1) 1 (by decide)
  rw [e]
  have h : j = 0 ∨ j = 1 := by omega
  rcases h with rfl | rfl
  · rfl
  · rfl
/-- what the slots hold, by the law's own words -/
def wr_S (sl : Nat) (zc oc x1 x2 x7 z0 : Int32) : Prop :=
  (x2 = nI sl ∧ sl < 3 ∧ ¬ x7 = 0 ∧ ¬ z0 = 0 ∧ (x1 = 0 ∨ x1 = 1 ∨ x1 = 2) ∧ zc = (if x1 = 1 then 0 else 1) ∧ oc = (if x1 = 0 then 0 else 1)) ∨ (sl = 3 ∧ (x7 = 0 ∨ z0 = 0))
theorem wr_ix3 (l : Nat) (v : Int32) : wr_IX 3 l v = 0 := by
  unfold wr_IX
  by_cases e : l = 1 ∧ v = 1
  · rw [if_pos e]
    rfl
  · rw [if_neg e]
theorem wr_01 {x : Int32} (h : 0 ≤ x) (h2 : ¬ (1 : Int32) <<< (nI 1 &&& 31) ≤ x) : x = 0 ∨ x = 1 := by
  obtain ⟨j, hj, rfl⟩ := nI_of (Int32.not_lt.mpr h)
  have e : (1 : Int32) <<< (nI 1 &&& 31) = nI 2 := by decide
  rw [e, nI_leI (by omega) hj] at h2
  have h : j = 0 ∨ j = 1 := by omega
  rcases h with rfl | rfl
  · exact Or.inl rfl
  · exact Or.inr rfl
theorem wr_sh : ∀ s, s < 3 → (if s = 0 then (1 : Int32) else if s = 1 then 2 else if s = 2 then 4 else 0) = (1 : Int32) <<< ((nI s &&& 3) &&& 31) := by decide +kernel
theorem wr_l7 : ∀ l, l < 8 → nI l &&& 7 = nI l := by decide +kernel
theorem wr_v {x1 x5 : Int32} (h1 : x1 = 0 ∨ x1 = 1 ∨ x1 = 2) (h5 : x5 = 0 ∨ x5 = 1) :
    (if (if (x5 >>> (nI (1 - 1) &&& 31)) &&& 1 = 1 then (1 : Int32) else 0) = 0 then (if x1 = 1 then (0 : Int32) else 1) else (if x1 = 0 then 0 else 1)) = 1 ↔ (x1 = 2 ∨ x5 = x1) := by
  rcases h1 with rfl | rfl | rfl <;> rcases h5 with rfl | rfl <;> decide
theorem wr_pT {sl l : Nat} {zc oc x1 x2 x4 x5 x7 z0 t : Int32} (hS : wr_S sl zc oc x1 x2 x7 z0) (hl : l ≤ 7) (e4 : x4 = nI l) (h5 : 0 ≤ x5) (h5' : ¬ (1 : Int32) <<< (nI l &&& 31) ≤ x5)
    (et : t = (if (x5 >>> (nI (l - 1) &&& 31)) &&& 1 = 1 then 1 else 0)) (w : wr_H x1 x4 x5 x7 z0) : wr_IX sl l (if t = 0 then zc else oc) = (1 : Int32) <<< ((x2 &&& 3) &&& 31) := by
  obtain ⟨w1, w2, w3, w4⟩ := w
  rcases hS with ⟨rfl, hs, _, _, h1, rfl, rfl⟩ | ⟨_, h | h⟩
  · have l1 : l = 1 := (nI_eq (by omega) (by omega)).mp (e4.symm.trans w3)
    subst l1
    have v := (wr_v h1 (wr_01 h5 h5')).mpr w4
    rw [← et] at v
    rw [← wr_sh sl hs]
    exact if_pos ⟨rfl, v⟩
  · exact absurd h w1
  · exact absurd h w2
theorem wr_pF {sl l : Nat} {zc oc x1 x2 x4 x5 x7 z0 t : Int32} (hS : wr_S sl zc oc x1 x2 x7 z0) (hl : l ≤ 7) (e4 : x4 = nI l) (h5 : 0 ≤ x5) (h5' : ¬ (1 : Int32) <<< (nI l &&& 31) ≤ x5)
    (et : t = (if (x5 >>> (nI (l - 1) &&& 31)) &&& 1 = 1 then 1 else 0)) (w : ¬ wr_H x1 x4 x5 x7 z0) : wr_IX sl l (if t = 0 then zc else oc) = 0 := by
  rcases hS with ⟨rfl, hs, n7, n8, h1, rfl, rfl⟩ | ⟨rfl, _⟩
  · refine if_neg (fun q => w ⟨n7, n8, ?_, ?_⟩)
    · rw [e4, q.1]
      rfl
    · obtain ⟨l1, v⟩ := q
      subst l1
      rw [et] at v
      exact (wr_v h1 (wr_01 h5 h5')).mp v
  · exact wr_ix3 l _
theorem wr_ltr {P : Int32 → Prop} (h : P pl) : wpX_letters P (lg, ht, pl, tb, fr, nd, a1, a2, a3, a4, a5, a6, a7, a8, a9, a10, a11, a12, a13, a14, a15, a16, a17, a18, a19, a20, a21, a22) := h
theorem wr_dep {P : Int32 → Prop} (h : P ht) : wpX_depth P (lg, ht, pl, tb, fr, nd, a1, a2, a3, a4, a5, a6, a7, a8, a9, a10, a11, a12, a13, a14, a15, a16, a17, a18, a19, a20, a21, a22) := h
theorem wr_mid {post : Int32 → St0 → Prop} {mc ms kc ks n sl : Nat} {x1 x2 x3 x4 x5 x7 z0 x10 x11 x12 x13 zc oc : Int32} {P : Int32 → St2 → Prop} {P2 : Int32 → Int32 → St2 → Prop}
    (h : post 1 ()) (hn : n ≤ 7) (hl : lg = nI n) (hf : fr = 0) (htb : tb = 170) (hz : zc = 0 ∨ zc = 1) (ho : oc = 0 ∨ oc = 1) (sp : wr_SP sl zc oc a8 a9 a10 a11 a12 a13) (hS : wr_S sl zc oc x1 x2 x7 z0)
    (aa : wr_A x3 x7 z0 x10 x11 x12 x13 ht pl (if x3 < 0 then -1 else if 255 < x3 then -1 else 170))
    (hP : ∀ (r : Int32) (lg ht pl tb fr nd : Int32) (a1 a2 a3 a4 a5 a6 a7 a8 a9 a10 a11 a12 a13 a14 a15 a16 a17 a18 a19 a20 a21 a22 : Nat → Int32), wpX_isChosen (P2 r) (lg, ht, pl, tb, fr, nd, a1, a2, a3, a4, a5, a6, a7, a8, a9, a10, a11, a12, a13, a14, a15, a16, a17, a18, a19, a20, a21, a22) x4 x5 → P r (lg, ht, pl, tb, fr, nd, a1, a2, a3, a4, a5, a6, a7, a8, a9, a10, a11, a12, a13, a14, a15, a16, a17, a18, a19, a20, a21, a22))
    (hP2 : ∀ (r r' : Int32) (u : St2), wr_Q post mc ms x1 x2 x3 x4 x5 (nI n) x7 z0 x10 x11 x12 x13 ht pl r r' kc ks → P2 r r' u) : wpX_choose P (lg, ht, pl, tb, fr, nd, a1, a2, a3, a4, a5, a6, a7, a8, a9, a10, a11, a12, a13, a14, a15, a16, a17, a18, a19, a20, a21, a22) x3 := by
  subst hl htb
  refine wr_chs hf ?_
  intro tb' etb
  refine hP _ _ _ _ _ _ _ _ _ _ _ _ _ _ _ _ _ _ _ _ _ _ _ _ _ _ _ _ _ ?_
  by_cases v : wr_V x4 x5 (nI n)
  · obtain ⟨v1, v2, v3, v4⟩ := v
    obtain ⟨l, hl, rfl⟩ := nI_of v1
    have hln : l ≤ n := by
      rw [nI_ltI (by omega) hl] at v2
      omega
    have v4' := v4
    rw [wr_l7 l (by omega)] at v4'
    refine wr_isC hn hln (Int32.not_lt.mp v3) v4' hf hz ho sp rfl ?_
    intro u
    refine hP2 _ _ u (wr_tQ h aa (fun _ w => ?_) (fun _ w => ?_) (fun q => absurd ⟨v1, v2, v3, v4⟩ q))
    · rw [wr_tbv, wr_pT hS (by omega) rfl (Int32.not_lt.mp v3) v4' rfl w, etb]
    · rw [wr_tbv, wr_pF hS (by omega) rfl (Int32.not_lt.mp v3) v4' rfl w, etb]
  · refine wr_isB ?_ (hP2 _ _ _ (wr_tQ h aa (fun q => absurd q v) (fun q => absurd q v) (fun _ => rfl)))
    by_cases q1 : x4 < 0
    · exact Or.inl q1
    · by_cases q2 : nI n < x4
      · exact Or.inr (Or.inl q2)
      · by_cases q3 : x5 < 0
        · exact Or.inr (Or.inr (Or.inl q3))
        · refine Or.inr (Or.inr (Or.inr ?_))
          obtain ⟨l, hl, rfl⟩ := nI_of q1
          have hln : l ≤ n := by
            rw [nI_ltI (by omega) hl] at q2
            omega
          have e := wr_l7 l (by omega)
          rcases Classical.em ((1 : Int32) <<< (nI l &&& 31) ≤ x5) with q | q
          · exact q
          · refine absurd ⟨q1, q2, q3, ?_⟩ v
            rw [e]
            exact q
theorem wr_up0 (k j : Nat) : upd (fun _ => 0) k 0 j = 0 := by
  by_cases e : j = k
  · rw [e, pk_us]
  · rw [pk_un e]
theorem wr_SP1 {s : Nat} {zc oc : Int32} {b11 b12 : Nat → Int32} (e11 : b11 s = zc) (e12 : b12 s = oc) : wr_SP s zc oc (upd (fun _ => 0) s 1) (upd (fun _ => 0) s 1) (upd (fun _ => 0) s 0) b11 b12 (upd (fun _ => 0) (s * 12) 0) := by
  intro j hj
  refine ⟨wr_up0 s j, wr_up0 (s * 12) (j * 12), fun e => ?_, fun e => ⟨pk_un e, pk_un e⟩⟩
  subst e
  exact ⟨pk_us, pk_us, e11, e12⟩
theorem wr_SP0 : wr_SP 3 0 0 (fun _ => 0) (fun _ => 0) (fun _ => 0) (fun _ => 0) (fun _ => 0) (fun _ => 0) :=
  fun j hj => ⟨rfl, rfl, fun e => absurd e (by omega), fun _ => ⟨rfl, rfl⟩⟩
theorem wr_k3 {c : Int32} (h1 : ¬ c < 0) (h2 : c ≤ 2) : c = 0 ∨ c = 1 ∨ c = 2 := by
  obtain ⟨j, hj, rfl⟩ := nI_of2 (n := 2) (M := 2) rfl h1 h2
  have h : j = 0 ∨ j = 1 ∨ j = 2 := by omega
  rcases h with rfl | rfl | rfl
  · exact Or.inl rfl
  · exact Or.inr (Or.inl rfl)
  · exact Or.inr (Or.inr rfl)
theorem wr_if01 {x k : Int32} : (if x = k then (0 : Int32) else 1) = 0 ∨ (if x = k then (0 : Int32) else 1) = 1 := by
  by_cases h : x = k
  · exact Or.inl (if_pos h)
  · exact Or.inr (if_neg h)
theorem wr_53 {post : Int32 → St0 → Prop} {n : Nat} {x0 x1 x2 x3 x4 x5 x7 z0 : Int32} (h : post 1 ()) (h6 : (x0 = nI n ∧ 1 ≤ n ∧ n ≤ 7) ∨ (¬ 1 ≤ x0 ∧ n = 1) ∨ (¬ x0 ≤ 7 ∧ n = 7))
    (h7 : (x7 = 1 ∧ ¬ x1 < 0 ∧ x1 ≤ 2) ∨ (x7 = 0 ∧ (x1 < 0 ∨ ¬ x1 ≤ 2))) (h8 : (z0 = 1 ∧ ¬ x2 < 0 ∧ x2 ≤ 2) ∨ (z0 = 0 ∧ (x2 < 0 ∨ ¬ x2 ≤ 2))) :
    wL_lawOf_53 post 23 2205 x0 x1 x2 x3 x4 x5 (nI n) x7 z0 0 0 := by
  have hn : n ≤ 7 := by omega
  unfold wL_lawOf_53
  refine ⟨by omega, by omega, 22, 2177, by omega, by omega, wr_ini h6 ?_⟩
  rcases h7 with ⟨rfl, c1, c2⟩ | ⟨rfl, c1⟩
  · refine wr_let c1 c2 rfl rfl (wr_rev rfl rfl pk_us pk_us ?_)
    intro b2 b3 b6 b7 e2 e3 e6
    refine wr_ltr ?_
    rcases h8 with ⟨rfl, s1, s2⟩ | ⟨rfl, s1⟩
    · obtain ⟨s, hs, rfl⟩ := nI_of2 (n := 2) (M := 2) rfl s1 s2
      refine wr_sto (c := x1) (s := s) (by omega) rfl rfl pk_us (e2.trans pk_us) (e3.trans pk_us) pk_us pk_us e6 ?_
      intro b11 b12 e11 e12
      refine wr_dep (wr_ltr (wr_mid (mc := 23) (ms := 2205) (kc := 0 + 1 + 22) (ks := 0 + 28 + 2177) (x1 := x1) (x2 := nI s) (x3 := x3) (x4 := x4) (x5 := x5) (x7 := 1) (z0 := 1) (x10 := 1) (x11 := 1) (x12 := 1) (x13 := 0) h hn rfl rfl rfl wr_if01 wr_if01 (wr_SP1 e11 e12) (Or.inl ⟨rfl, by omega, by decide, by decide, wr_k3 c1 c2, rfl, rfl⟩) ⟨rfl, rfl, rfl, rfl, rfl, rfl, rfl⟩ (fun _ _ _ _ _ _ _ _ _ _ _ _ _ _ _ _ _ _ _ _ _ _ _ _ _ _ _ _ _ q => q) ?_))
      rintro r r' ⟨u1, u2, u3, u4, u5, u6, u7, u8, u9, u10, u11, u12, u13, u14, u15, u16, u17, u18, u19, u20, u21, u22, u23, u24, u25, u26, u27, u28⟩ q
      exact q
    · refine wr_stB s1 (wr_dep (wr_ltr (wr_mid (mc := 23) (ms := 2205) (kc := 0 + 1 + 22) (ks := 0 + 28 + 2177) (x1 := x1) (x2 := x2) (x3 := x3) (x4 := x4) (x5 := x5) (x7 := 1) (z0 := 0) (x10 := 1) (x11 := 1) (x12 := 1) (x13 := -1) (sl := 3) (zc := 0) (oc := 0) h hn rfl rfl rfl (Or.inl rfl) (Or.inl rfl) wr_SP0 (Or.inr ⟨rfl, Or.inr rfl⟩) ⟨rfl, rfl, rfl, rfl, rfl, rfl, rfl⟩ (fun _ _ _ _ _ _ _ _ _ _ _ _ _ _ _ _ _ _ _ _ _ _ _ _ _ _ _ _ _ q => q) ?_)))
      rintro r r' ⟨u1, u2, u3, u4, u5, u6, u7, u8, u9, u10, u11, u12, u13, u14, u15, u16, u17, u18, u19, u20, u21, u22, u23, u24, u25, u26, u27, u28⟩ q
      exact q
  · refine wr_leB c1 (wr_reB rfl (wr_ltr ?_))
    rcases h8 with ⟨rfl, s1, s2⟩ | ⟨rfl, s1⟩
    · refine wr_stF s1 s2 rfl (wr_dep (wr_ltr (wr_mid (mc := 23) (ms := 2205) (kc := 0 + 1 + 22) (ks := 0 + 28 + 2177) (x1 := x1) (x2 := x2) (x3 := x3) (x4 := x4) (x5 := x5) (x7 := 0) (z0 := 1) (x10 := -1) (x11 := -3) (x12 := 0) (x13 := -3) (sl := 3) (zc := 0) (oc := 0) h hn rfl rfl rfl (Or.inl rfl) (Or.inl rfl) wr_SP0 (Or.inr ⟨rfl, Or.inl rfl⟩) ⟨rfl, rfl, rfl, rfl, rfl, rfl, rfl⟩ (fun _ _ _ _ _ _ _ _ _ _ _ _ _ _ _ _ _ _ _ _ _ _ _ _ _ _ _ _ _ q => q) ?_)))
      rintro r r' ⟨u1, u2, u3, u4, u5, u6, u7, u8, u9, u10, u11, u12, u13, u14, u15, u16, u17, u18, u19, u20, u21, u22, u23, u24, u25, u26, u27, u28⟩ q
      exact q
    · refine wr_stB s1 (wr_dep (wr_ltr (wr_mid (mc := 23) (ms := 2205) (kc := 0 + 1 + 22) (ks := 0 + 28 + 2177) (x1 := x1) (x2 := x2) (x3 := x3) (x4 := x4) (x5 := x5) (x7 := 0) (z0 := 0) (x10 := -1) (x11 := -3) (x12 := 0) (x13 := -1) (sl := 3) (zc := 0) (oc := 0) h hn rfl rfl rfl (Or.inl rfl) (Or.inl rfl) wr_SP0 (Or.inr ⟨rfl, Or.inl rfl⟩) ⟨rfl, rfl, rfl, rfl, rfl, rfl, rfl⟩ (fun _ _ _ _ _ _ _ _ _ _ _ _ _ _ _ _ _ _ _ _ _ _ _ _ _ _ _ _ _ q => q) ?_)))
      rintro r r' ⟨u1, u2, u3, u4, u5, u6, u7, u8, u9, u10, u11, u12, u13, u14, u15, u16, u17, u18, u19, u20, u21, u22, u23, u24, u25, u26, u27, u28⟩ q
      exact q
end
end
section
theorem wr_21 {post : Int32 → St0 → Prop} {n : Nat} {x0 x1 x2 x3 x4 x5 : Int32} (h : post 1 ()) (h6 : (x0 = nI n ∧ 1 ≤ n ∧ n ≤ 7) ∨ (¬ 1 ≤ x0 ∧ n = 1) ∨ (¬ x0 ≤ 7 ∧ n = 7)) : wL_lawOf_21 post 23 2205 x0 x1 x2 x3 x4 x5 (nI n) 0 0 := by
  have K : ∀ x7, (x7 = 1 ∧ ¬ x1 < 0 ∧ x1 ≤ 2) ∨ (x7 = 0 ∧ (x1 < 0 ∨ ¬ x1 ≤ 2)) → wL_lawOf_37 post 23 2205 x0 x1 x2 x3 x4 x5 (nI n) x7 0 0 := by
    intro x7 h7
    refine br_c (fun q => ?_) (fun q => br_c (fun q2 => ?_) (fun q2 => ?_))
    · exact wr_53 h h6 h7 (Or.inr ⟨rfl, Or.inl q⟩)
    · exact wr_53 h h6 h7 (Or.inr ⟨rfl, Or.inr (Int32.not_le.mpr q2)⟩)
    · exact wr_53 h h6 h7 (Or.inl ⟨rfl, q, Int32.not_lt.mp q2⟩)
  refine br_c (fun q => ?_) (fun q => br_c (fun q2 => ?_) (fun q2 => ?_))
  · exact K 0 (Or.inr ⟨rfl, Or.inl q⟩)
  · exact K 0 (Or.inr ⟨rfl, Or.inr (Int32.not_le.mpr q2)⟩)
  · exact K 1 (Or.inl ⟨rfl, q, Int32.not_lt.mp q2⟩)
theorem wr_law {post : Int32 → St0 → Prop} {x0 x1 x2 x3 x4 x5 : Int32} (h : post 1 ()) : wpL_lawOf post 23 2205 () x0 x1 x2 x3 x4 x5 := by
  refine br_c (fun q => br_c (fun q2 => ?_) (fun q2 => ?_)) (fun q => ?_)
  · have q0 : ¬ x0 < 0 := fun z => absurd (Int32.lt_of_le_of_lt q z) (by decide)
    obtain ⟨n, hn, rfl⟩ := nI_of2 (n := 7) (M := 7) rfl q0 q2
    have h1 : 1 ≤ n := (nI_leI (a := 1) (by omega) (by omega)).mp q
    exact wr_21 h (Or.inl ⟨rfl, h1, hn⟩)
  · exact wr_21 (n := 7) h (Or.inr (Or.inr ⟨q2, rfl⟩))
  · exact wr_21 (n := 1) h (Or.inr (Or.inl ⟨q, rfl⟩))
theorem wr_cell {post : Int32 → Prop} {L : Nat} {xs : Nat → Int32} {u : St0} (k : Nat) (hL : L ≤ 6) (hk : k < 6) (h : ∀ r, post r) : wpL_cellAt post L xs u (nI k) :=
  pk_le L k (fun _ => h 0) (fun q => ⟨pk_in k L q, h _⟩)
theorem i_vc (xs : Nat → Int32) (L : Nat) (hL : L ≤ 6) : wpL_law (fun r => r = 1) L xs :=
  wr_cell 0 hL (by omega) (fun _ => wr_cell 1 hL (by omega) (fun _ => wr_cell 2 hL (by omega) (fun _ => wr_cell 3 hL (by omega) (fun _ => wr_cell 4 hL (by omega) (fun _ => wr_cell 5 hL (by omega) (fun _ => ⟨23, 2205, by omega, by omega, wr_law rfl⟩))))))
end
