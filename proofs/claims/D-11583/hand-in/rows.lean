section
/-! the picture: a partition's code is octal, part i is its digit i -/
def cd_pt (s i : Nat) : Nat := s / 2 ^ (3 * i) % 8
def cd_rg (s : Nat) : Nat → Nat → Nat → Nat
  | 0, _, z => if z ≤ 7 then z else 0
  | f + 1, i, z => if 0 < i ∧ cd_pt s (i - 1) < cd_pt s i then 0 else cd_rg s f (i + 1) (z + cd_pt s i)
/-- what read answers -/
def cd_rd (s : Nat) : Nat := cd_rg s 4 0 0
/-- how many codes from 1 to s are partitions of n -/
def cd_ct (n : Nat) : Nat → Nat
  | 0 => 0
  | s + 1 => cd_ct n s + (if cd_rd (s + 1) = n then 1 else 0)
/-- the rims that wantParts lays down -/
def cd_rm (m : Nat) : Nat → Nat → List Nat
  | 0, _ => []
  | f + 1, i => if 0 < cd_pt m i then cd_pt m i :: cd_rm m f (i + 1) else cd_rm m f (i + 1)
def cd_mg (s : Nat) : Nat → Nat → Nat → Nat
  | 0, _, v => v
  | f + 1, i, v => cd_mg s f (i + 1) (v ||| 2 ^ (cd_pt s i + 3 - i))
/-- the set of marks -/
def cd_mk (s : Nat) : Nat := cd_mg s 4 0 0
/-- how many marks of a set lie at b, b + 1, .. (f places) -/
def cd_bg (u : Nat) : Nat → Nat → Nat
  | 0, _ => 0
  | f + 1, b => u / 2 ^ b % 2 + cd_bg u f (b + 1)
/-- a mark moved from b to t -/
def cd_nx (u b t : Nat) : Nat := (u &&& (2 ^ b ^^^ 4294967295)) ||| 2 ^ t
/-- the weight of all moves of u by l that start at b, b + 1, .. (f places) -/
def cd_vg (G : Nat → Int) (u l : Nat) : Nat → Nat → Int
  | 0, _ => 0
  | f + 1, b => (if u / 2 ^ b % 2 = 0 then 0 else if u / 2 ^ (b - l) % 2 = 0 then (if cd_bg u (b - (b - l + 1)) (b - l + 1) % 2 = 0 then G (cd_nx u b (b - l)) else - G (cd_nx u b (b - l))) else 0) + cd_vg G u l f (b + 1)
def cd_mv (G : Nat → Int) (l u : Nat) : Int := cd_vg G u l (11 - l) l
/-- how often, signs counted, nothing is left of a set when the rims k, k + 1, .. (f of them) are taken away -/
def cd_Ff (rf : Nat → Nat) : Nat → Nat → Nat → Int
  | 0, _ => fun u => if u = 15 then 1 else 0
  | f + 1, k => cd_mv (cd_Ff rf f (k + 1)) (rf k)
def cd_rf (m j : Nat) : Nat := (cd_rm m 4 0).getD j 0
def cd_ch (s m : Nat) : Int := cd_Ff (cd_rf m) (cd_rm m 4 0).length 0 (cd_mk s)
def cd_dg (n s : Nat) : Int := cd_Ff (fun _ => 1) n 0 (cd_mk s)
/-! the law's picture -/
def cd_lt (a b : Nat) : Nat := if a < b then 1 else 0
def cd_sn (a b c d : Nat) : Int :=
  if 3 < a then 0 else if 3 < b then 0 else if 3 < c then 0 else if 3 < d then 0 else
  if a = b then 0 else if a = c then 0 else if a = d then 0 else if b = c then 0 else if b = d then 0 else if c = d then 0 else
  if (cd_lt a b + cd_lt a c + cd_lt a d + cd_lt b c + cd_lt b d + cd_lt c d) % 2 = 0 then 1 else -1
def cd_sg (r : Nat) : Int := cd_sn (r % 16) (r / 2 ^ 4 % 16) (r / 2 ^ 8 % 16) (r / 2 ^ 12 % 16)
def cd_lc (code k : Nat) : Nat := code / 2 ^ (2 * k) % 4
def cd_tm (m code : Nat) : Nat → Nat → Nat → Int
  | 0, _, r => cd_sg r
  | f + 1, k, r =>
    if cd_pt m k = 0 ∧ ¬ cd_lc code k = 0 then 0 else
    if r / 2 ^ (4 * cd_lc code k) % 16 < cd_pt m k then 0 else cd_tm m code f (k + 1) (r - cd_pt m k * 2 ^ (4 * cd_lc code k))
def cd_ls (m r0 : Nat) : Nat → Int
  | 0 => 0
  | n + 1 => cd_ls m r0 n + cd_tm m n 4 0 r0
def cd_fg (n : Nat) : Nat → Nat → Nat → Nat
  | 0, _, v => v
  | f + 1, k, v => cd_fg n f (k + 1) (if n < k then v * 1 else v * k)
def cd_fc (n : Nat) : Nat := cd_fg n 9 2 1
def cd_l0 (s : Nat) : Nat := s % 8 + 3
def cd_l1 (s : Nat) : Nat := s / 2 ^ 3 % 8 + 2
def cd_l2 (s : Nat) : Nat := s / 2 ^ 6 % 8 + 1
def cd_l3 (s : Nat) : Nat := s / 2 ^ 9
def cd_r0 (s : Nat) : Nat := ((cd_l0 s ||| cd_l1 s * 2 ^ 4) ||| cd_l2 s * 2 ^ 8) ||| cd_l3 s * 2 ^ 12
/-! arithmetic -/
theorem cd_sl : ∀ n, n < 32 → ((nI n &&& 31).toBitVec.smod 32).toNat = n := by decide +kernel
theorem cd_b8 : ∀ t, t < 8 → (nI t).toInt8.toInt32 = nI t := by decide +kernel
theorem cd_dl (n k : Nat) : n / 2 ^ k ≤ n := Nat.div_le_self _ _
theorem cd_sh {n k : Nat} (hn : n < 2 ^ 31) (hk : k < 32) : nI n >>> (nI k &&& 31) = nI (n / 2 ^ k) := pk_shrN hn _ k (cd_sl k hk)
theorem cd_b1 {n k : Nat} (hn : n < 2 ^ 31) (hk : k < 32) : (nI n >>> (nI k &&& 31)) &&& 1 = nI (n / 2 ^ k % 2) := by
  rw [cd_sh hn hk]
  exact pk_andN (Nat.lt_of_le_of_lt (cd_dl n k) (by omega)) 1 (by decide)
theorem cd_b3 {n k : Nat} (hn : n < 2 ^ 31) (hk : k < 32) : (nI n >>> (nI k &&& 31)) &&& 3 = nI (n / 2 ^ k % 4) := by
  rw [cd_sh hn hk]
  exact pk_andN (Nat.lt_of_le_of_lt (cd_dl n k) (by omega)) 2 (by decide)
theorem cd_b7 {n k : Nat} (hn : n < 2 ^ 31) (hk : k < 32) : (nI n >>> (nI k &&& 31)) &&& 7 = nI (n / 2 ^ k % 8) := by
  rw [cd_sh hn hk]
  exact pk_andN (Nat.lt_of_le_of_lt (cd_dl n k) (by omega)) 3 (by decide)
theorem cd_b15 {n k : Nat} (hn : n < 2 ^ 31) (hk : k < 32) : (nI n >>> (nI k &&& 31)) &&& 15 = nI (n / 2 ^ k % 16) := by
  rw [cd_sh hn hk]
  exact pk_andN (Nat.lt_of_le_of_lt (cd_dl n k) (by omega)) 4 (by decide)
theorem cd_shl {n k : Nat} (hk : k < 32) (h : n * 2 ^ k < 2 ^ 32) : nI n <<< (nI k &&& 31) = nI (n * 2 ^ k) := pk_shlN _ k (cd_sl k hk) h
theorem cd_p2 : ∀ k, k < 31 → (1 : Int32) <<< (nI k &&& 31) = nI (2 ^ k) := by decide +kernel
theorem cd_or (a b : Nat) : nI a ||| nI b = nI (a ||| b) := by
  apply Int32.toBitVec_inj.1
  show BitVec.ofNat 32 a ||| BitVec.ofNat 32 b = BitVec.ofNat 32 (a ||| b)
  apply BitVec.eq_of_getLsbD_eq
  intro i hi
  simp [hi]
theorem cd_and (a b : Nat) : nI a &&& nI b = nI (a &&& b) := by
  apply Int32.toBitVec_inj.1
  show BitVec.ofNat 32 a &&& BitVec.ofNat 32 b = BitVec.ofNat 32 (a &&& b)
  apply BitVec.eq_of_getLsbD_eq
  intro i hi
  simp [hi]
theorem cd_xor (a b : Nat) : nI a ^^^ nI b = nI (a ^^^ b) := by
  apply Int32.toBitVec_inj.1
  show BitVec.ofNat 32 a ^^^ BitVec.ofNat 32 b = BitVec.ofNat 32 (a ^^^ b)
  apply BitVec.eq_of_getLsbD_eq
  intro i hi
  simp [hi]
theorem cd_pt_lt (s i : Nat) : cd_pt s i < 8 := Nat.mod_lt _ (by decide)
theorem cd_p7 {s i : Nat} (hs : s < 2 ^ 31) (hi : i < 4) : (nI s >>> ((3 * nI i) &&& 31)) &&& 7 = nI (cd_pt s i) := by
  rw [show (3 : Int32) * nI i = nI (3 * i) from pk_mul 3 i]
  exact cd_b7 hs (by omega)
theorem cd_p7b {s i : Nat} (hs : s < 2 ^ 31) (hi : i < 4) : ((nI s >>> ((3 * nI i) &&& 31)) &&& 7).toInt8.toInt32 = nI (cd_pt s i) := by
  rw [cd_p7 hs hi, cd_b8 _ (cd_pt_lt s i)]
theorem cd_p3 {c i : Nat} (hs : c < 2 ^ 31) (hi : i < 4) : (nI c >>> ((2 * nI i) &&& 31)) &&& 3 = nI (cd_lc c i) := by
  rw [show (2 : Int32) * nI i = nI (2 * i) from pk_mul 2 i]
  exact cd_b3 hs (by omega)
theorem cd_fill {s : Nat → Int32} {f : Nat → Nat} {i : Nat} {x : Int32} (h : ∀ j, j < i → s j = nI (f j)) (hx : x = nI (f i)) : ∀ j, j < i + 1 → upd s i x j = nI (f j) := by
  intro j hj
  by_cases e : j = i
  · rw [e, pk_us, hx]
  · rw [pk_un e]
    exact h j (by omega)
theorem cd_nx_lt {u b t : Nat} (hu : u < 2048) (ht : t < 11) : cd_nx u b t < 2048 := by
  have h1 : u &&& (2 ^ b ^^^ 4294967295) < 2 ^ 11 := Nat.lt_of_le_of_lt Nat.and_le_left hu
  have h2 : 2 ^ t < 2 ^ 11 := Nat.pow_lt_pow_right (by decide) ht
  exact Nat.or_lt_two_pow h1 h2
theorem cd_bg_le (u : Nat) : ∀ f b, cd_bg u f b ≤ f := by
  intro f
  induction f with
  | zero => intro b; exact Nat.le_refl 0
  | succ f ih =>
    intro b
    have h1 := ih (b + 1)
    have h2 : u / 2 ^ b % 2 < 2 := Nat.mod_lt _ (by decide)
    show u / 2 ^ b % 2 + cd_bg u f (b + 1) ≤ f + 1
    omega
/-! the functional: a set's counts against weights -/
def cd_S (a : Nat → Int32) (G : Nat → Int) : Nat → Int32
  | 0 => 0
  | n + 1 => cd_S a G n + a n * Int32.ofInt (G n)
theorem cd_S_cg {a b : Nat → Int32} {G : Nat → Int} : ∀ N, (∀ j, j < N → a j = b j) → cd_S a G N = cd_S b G N := by
  intro N
  induction N with
  | zero => intro _; rfl
  | succ N ih =>
    intro h
    show cd_S a G N + a N * Int32.ofInt (G N) = cd_S b G N + b N * Int32.ofInt (G N)
    rw [ih (fun j hj => h j (by omega)), h N (by omega)]
theorem cd_S_0 {a : Nat → Int32} {G : Nat → Int} : ∀ N, (∀ j, j < N → a j = 0) → cd_S a G N = 0 := by
  intro N
  induction N with
  | zero => intro _; rfl
  | succ N ih =>
    intro h
    show cd_S a G N + a N * Int32.ofInt (G N) = 0
    rw [ih (fun j hj => h j (by omega)), h N (by omega)]
    simp
theorem cd_S_up {a : Nat → Int32} {G : Nat → Int} {k : Nat} {v d : Int32} (hv : v = a k + d) : ∀ N, k < N → cd_S (upd a k v) G N = cd_S a G N + d * Int32.ofInt (G k) := by
  intro N
  induction N with
  | zero => intro h; exact absurd h (by omega)
  | succ N ih =>
    intro h
    show cd_S (upd a k v) G N + upd a k v N * Int32.ofInt (G N) = cd_S a G N + a N * Int32.ofInt (G N) + d * Int32.ofInt (G k)
    by_cases e : k = N
    · subst e
      rw [pk_us, cd_S_cg (a := upd a k v) (b := a) k (fun j hj => pk_un (by omega)), hv]
      grind
    · rw [pk_un (fun z => e z.symm), ih (by omega)]
      grind
end
section
theorem cd_r17 {post : Int32 → St2 → Prop} {ch rc : Int32} {a2 a3 a4 : Nat → Int32} {s : Nat} (hs : s < 4096)
    (H : ∀ b1 : Nat → Int32, (0 < cd_rd s → ∀ j, j < 4 → b1 j = nI (cd_pt s j)) → post (nI (cd_rd s)) (ch, rc, b1, a2, a3, a4)) :
    ∀ f i z a1, i + f = 4 → z ≤ 7 * i → (∀ j, j < i → a1 j = nI (cd_pt s j)) → cd_rg s f i z = cd_rd s → wX_read_17 post (nI s) ch rc (f + 1) (nI z) (nI i) a1 a2 a3 a4 := by
  intro f
  induction f with
  | zero =>
    intro i z a1 hi hz ha he
    have hi4 : i = 4 := by omega
    subst hi4
    refine pk_le 4 4 (fun _ => ?_) (fun h => absurd h (by omega))
    refine pk_lt 7 z (fun h => ?_) (fun h => ?_)
    · have e : cd_rd s = 0 := he.symm.trans (if_neg (by omega))
      have t := H a1 (fun h0 => absurd h0 (by omega))
      rw [e] at t
      exact t
    · have e : cd_rd s = z := he.symm.trans (if_pos h)
      have t := H a1 (fun _ => ha)
      rw [e] at t
      exact t
  | succ f ih =>
    intro i z a1 hi hz ha he
    have hp := cd_pt_lt s i
    have hi31 : i < 2 ^ 31 := by omega
    have hF : ∀ j, j < i + 1 → upd a1 i (nI (cd_pt s i)) j = nI (cd_pt s j) := cd_fill ha rfl
    refine pk_le 4 i (fun h => absurd h (by omega)) (fun _ => ⟨pk_in i 4 (by omega), nm_r (e' := upd a1 i (nI (cd_pt s i))) (by rw [nI_clamp hi31, cd_p7b (by omega) (by omega)]) ⟨pk_in i 4 (by omega), nm_r (e' := nI (z + cd_pt s i)) (by rw [nI_clamp hi31, pk_us, nI_add]) ?_⟩⟩)
    refine pk_le i 0 (fun h0 => nm_r (nI_1 i) ?_) (fun h0 => ⟨pk_in i 4 (by omega), pk_in (i - 1) 4 (by omega) (pk_sub (a := i) (b := 1) (by omega)), ?_⟩)
    · exact ih (i + 1) (z + cd_pt s i) _ (by omega) (by omega) hF ((if_neg (fun h => absurd h.1 (by omega))).symm.trans he)
    · refine pk_le (cd_pt s i) (cd_pt s (i - 1)) (fun h1 => nm_r (nI_1 i) ?_) (fun h1 => ?_) (by rw [nI_clamp hi31, pk_us]) (by rw [show nI i - 1 = nI (i - 1) from pk_sub (a := i) (b := 1) (by omega), nI_clamp (by omega), hF (i - 1) (by omega)]) (by omega) (by have := cd_pt_lt s (i - 1); omega)
      · exact ih (i + 1) (z + cd_pt s i) _ (by omega) (by omega) hF ((if_neg (fun h => absurd h.2 (by omega))).symm.trans he)
      · have e : cd_rd s = 0 := he.symm.trans (if_pos ⟨h0, h1⟩)
        have t := H (upd a1 i (nI (cd_pt s i))) (fun h0 => absurd h0 (by omega))
        rw [e] at t
        exact t
theorem cd_read {post : Int32 → St2 → Prop} {ch rc : Int32} {a1 a2 a3 a4 : Nat → Int32} {s : Nat} (hs : s < 4096)
    (H : ∀ b1 : Nat → Int32, (0 < cd_rd s → ∀ j, j < 4 → b1 j = nI (cd_pt s j)) → post (nI (cd_rd s)) (ch, rc, b1, a2, a3, a4)) :
    wpX_read post (ch, rc, a1, a2, a3, a4) (nI s) :=
  pk_lt s 0 (fun h => absurd h (by omega)) (fun _ => pk_le s 4095 (fun _ => ⟨4 + 1, cd_r17 hs H 4 0 0 a1 rfl (by omega) (fun j hj => absurd hj (by omega)) rfl⟩) (fun h => absurd h (by omega)))
theorem cd_rg_le (s : Nat) : ∀ f i z, cd_rg s f i z ≤ 7 := by
  intro f
  induction f with
  | zero =>
    intro i z
    show (if z ≤ 7 then z else 0) ≤ 7
    split <;> omega
  | succ f ih =>
    intro i z
    show (if 0 < i ∧ cd_pt s (i - 1) < cd_pt s i then 0 else cd_rg s f (i + 1) (z + cd_pt s i)) ≤ 7
    split
    · omega
    · exact ih _ _
theorem cd_rd_le (s : Nat) : cd_rd s ≤ 7 := cd_rg_le s 4 0 0
theorem cd_p21 {post : Int32 → St2 → Prop} {ch rc : Int32} {a2 a3 a4 : Nat → Int32} {n k : Nat} (hn : n ≤ 7) (hk : k < 4096)
    (H : ∀ (t : Nat) (b1 : Nat → Int32), 0 < t → t < 4096 → cd_rd t = n → post (nI t) (ch, rc, b1, a2, a3, a4)) :
    ∀ s z a1, s < 4096 → z ≤ k → k - z < cd_ct n s → wX_partition_21 post (nI n) (nI k) (s + 1) (nI z) (nI s) ch rc a1 a2 a3 a4 := by
  intro s
  induction s with
  | zero =>
    intro z a1 hs hz hc
    exact absurd hc (Nat.not_lt_zero _)
  | succ s ih =>
    intro z a1 hs hz hc
    have hr := cd_rd_le (s + 1)
    have hc' : k - z < cd_ct n s + (if cd_rd (s + 1) = n then 1 else 0) := hc
    refine pk_le (s + 1) 0 (fun h => absurd h (by omega)) (fun _ => cd_read hs (fun b1 _ => ?_))
    refine pk_eq (cd_rd (s + 1)) n (fun h => ?_) (fun h => nm_r (pk_m1 s) ?_)
    · refine pk_eq z k (fun h2 => H (s + 1) b1 (by omega) hs h) (fun h2 => nm_r (nI_1 z) (nm_r (pk_m1 s) ?_))
      rw [if_pos h] at hc'
      exact ih (z + 1) b1 (by omega) (by omega) (by omega)
    · rw [if_neg h] at hc'
      exact ih z b1 (by omega) hz hc'
theorem cd_part {post : Int32 → St2 → Prop} {ch rc : Int32} {a1 a2 a3 a4 : Nat → Int32} {n k : Nat} (h1 : 1 ≤ n) (hn : n ≤ 7) (hk : k < 4096) (hc : k < cd_ct n 4095)
    (H : ∀ (t : Nat) (b1 : Nat → Int32), 0 < t → t < 4096 → cd_rd t = n → post (nI t) (ch, rc, b1, a2, a3, a4)) :
    wpX_partition post (ch, rc, a1, a2, a3, a4) (nI n) (nI k) := by
  unfold wpX_partition
  dsimp only
  refine pk_lt n 1 (fun h => absurd h (by omega)) (fun _ => pk_lt 7 n (fun h => absurd h (by omega)) (fun _ => br_f (by decide) (pk_le 0 k (fun _ => ⟨4095 + 1, ?_⟩) (fun h => absurd h (by omega)))))
  exact cd_p21 hn hk H 4095 0 a1 (by omega) (by omega) hc
theorem cd_gl {l : List Nat} {x j : Nat} (h : j < l.length) : (l ++ [x]).getD j 0 = l.getD j 0 := by
  simp [List.getD, List.getElem?_append_left h]
theorem cd_gr (l : List Nat) (x : Nat) : (l ++ [x]).getD l.length 0 = x := by
  simp [List.getD]
theorem cd_w7 {post : St2 → Prop} {ch : Int32} {a1 a3 a4 : Nat → Int32} {m : Nat} {R : List Nat} (h1 : ∀ j, j < 4 → a1 j = nI (cd_pt m j))
    (H : ∀ b2 : Nat → Int32, (∀ j, j < R.length → b2 j = nI (R.getD j 0)) → post (ch, nI R.length, a1, b2, a3, a4)) :
    ∀ f i (acc : List Nat) a2, i + f = 4 → acc.length ≤ i → (∀ j, j < acc.length → a2 j = nI (acc.getD j 0)) → acc ++ cd_rm m f i = R → wX_wantParts_7 post ch (f + 1) (nI i) (nI acc.length) a1 a2 a3 a4 := by
  intro f
  induction f with
  | zero =>
    intro i acc a2 hi hl ha he
    have hR : acc = R := by rw [← he]; exact (List.append_nil acc).symm
    subst hR
    exact pk_le 4 i (fun _ => H a2 ha) (fun h => absurd h (by omega))
  | succ f ih =>
    intro i acc a2 hi hl ha he
    have hp := cd_pt_lt m i
    have e1 : a1 (nI i).toNatClampNeg = nI (cd_pt m i) := by rw [nI_clamp (by omega), h1 i (by omega)]
    refine pk_le 4 i (fun h => absurd h (by omega)) (fun _ => ⟨pk_in i 4 (by omega), ?_⟩)
    refine pk_le (cd_pt m i) 0 (fun h0 => nm_r (nI_1 i) ?_) (fun h0 => ⟨pk_in i 4 (by omega), pk_in acc.length 8 (by omega), nm_r (e' := upd a2 acc.length (nI (cd_pt m i))) ?_ (nm_r (nI_1 acc.length) (nm_r (nI_1 i) ?_))⟩) e1
    · refine ih (i + 1) acc a2 (by omega) (by omega) ha ?_
      rw [← he]
      exact congrArg (acc ++ ·) (if_neg (by omega)).symm
    · rw [e1, nI_clamp (by omega), vp_nar_byte, cd_b8 _ hp]
    · have e2 : (acc ++ [cd_pt m i]).length = acc.length + 1 := by simp
      have t := ih (i + 1) (acc ++ [cd_pt m i]) (upd a2 acc.length (nI (cd_pt m i))) (by omega) (by omega) ?_ ?_
      · rw [e2] at t
        exact t
      · rw [e2]
        refine cd_fill (f := fun j => (acc ++ [cd_pt m i]).getD j 0) (fun j hj => ?_) ?_
        · show a2 j = nI ((acc ++ [cd_pt m i]).getD j 0)
          rw [cd_gl hj, ha j hj]
        · show nI (cd_pt m i) = nI ((acc ++ [cd_pt m i]).getD acc.length 0)
          rw [cd_gr]
      · rw [← he, List.append_assoc]
        exact congrArg (acc ++ ·) (if_pos h0).symm
theorem cd_wantP {post : St2 → Prop} {ch rc : Int32} {a1 a2 a3 a4 : Nat → Int32} {m : Nat} (h1 : ∀ j, j < 4 → a1 j = nI (cd_pt m j))
    (H : ∀ b2 : Nat → Int32, (∀ j, j < (cd_rm m 4 0).length → b2 j = nI (cd_rf m j)) → post (ch, nI (cd_rm m 4 0).length, a1, b2, a3, a4)) :
    wpX_wantParts post (ch, rc, a1, a2, a3, a4) :=
  ⟨4 + 1, cd_w7 h1 H 4 0 [] a2 rfl (by simp) (fun j hj => absurd hj (by simp)) rfl⟩
theorem cd_rm_in (m : Nat) : ∀ f i x, x ∈ cd_rm m f i → 0 < x ∧ x < 8 := by
  intro f
  induction f with
  | zero => intro i x h; exact absurd h List.not_mem_nil
  | succ f ih =>
    intro i x h
    have h' : x ∈ (if 0 < cd_pt m i then cd_pt m i :: cd_rm m f (i + 1) else cd_rm m f (i + 1)) := h
    split at h'
    · rename_i hp
      rcases List.mem_cons.mp h' with e | e
      · rw [e]; exact ⟨hp, cd_pt_lt m i⟩
      · exact ih _ _ e
    · exact ih _ _ h'
theorem cd_rm_len (m : Nat) : ∀ f i, (cd_rm m f i).length ≤ f := by
  intro f
  induction f with
  | zero => intro i; exact Nat.le_refl 0
  | succ f ih =>
    intro i
    have h1 := ih (i + 1)
    show (if 0 < cd_pt m i then cd_pt m i :: cd_rm m f (i + 1) else cd_rm m f (i + 1)).length ≤ f + 1
    split
    · rw [List.length_cons]; omega
    · omega
theorem cd_rf_in (m j : Nat) (h : j < (cd_rm m 4 0).length) : 0 < cd_rf m j ∧ cd_rf m j < 8 := by
  apply cd_rm_in m 4 0
  unfold cd_rf
  have e : (cd_rm m 4 0).getD j 0 = (cd_rm m 4 0)[j] := by simp [List.getD, List.getElem?_eq_getElem h]
  rw [e]
  exact List.getElem_mem h
theorem cd_o7 {post : St2 → Prop} {ch rc : Int32} {a1 a3 a4 : Nat → Int32} {n : Nat} (hn : n ≤ 7)
    (H : ∀ b2 : Nat → Int32, (∀ j, j < n → b2 j = nI ((fun _ => 1) j)) → post (ch, rc, a1, b2, a3, a4)) :
    ∀ f i a2, i + f = n → (∀ j, j < i → a2 j = nI ((fun _ => 1) j)) → wX_wantOnes_7 post (nI n) ch rc (f + 1) (nI i) a1 a2 a3 a4 := by
  intro f
  induction f with
  | zero =>
    intro i a2 hi ha
    have e : i = n := by omega
    subst e
    exact pk_le i i (fun _ => H a2 ha) (fun h => absurd h (by omega))
  | succ f ih =>
    intro i a2 hi ha
    refine pk_le n i (fun h => absurd h (by omega)) (fun _ => ⟨pk_in i 8 (by omega), nm_r (e' := upd a2 i 1) (by rw [nI_clamp (by omega)]) (nm_r (nI_1 i) ?_)⟩)
    exact ih (i + 1) _ (by omega) (cd_fill (f := fun _ => 1) ha rfl)
theorem cd_wantO {post : St2 → Prop} {ch rc : Int32} {a1 a2 a3 a4 : Nat → Int32} {n : Nat} (hn : n ≤ 7)
    (H : ∀ b2 : Nat → Int32, (∀ j, j < n → b2 j = nI ((fun _ => 1) j)) → post (ch, nI n, a1, b2, a3, a4)) :
    wpX_wantOnes post (ch, rc, a1, a2, a3, a4) (nI n) :=
  ⟨n + 1, cd_o7 hn H n 0 a2 (by omega) (fun j hj => absurd hj (by omega))⟩
theorem cd_m4 {post : Int32 → Prop} {ch rc : Int32} {a1 a2 a3 a4 : Nat → Int32} {s : Nat} (h1 : ∀ j, j < 4 → a1 j = nI (cd_pt s j)) (H : post (nI (cd_mk s))) :
    ∀ f i v, i + f = 4 → cd_mg s f i v = cd_mk s → wX_marks_4 post ch rc a1 a2 a3 a4 (f + 1) (nI v) (nI i) := by
  intro f
  induction f with
  | zero =>
    intro i v hi he
    have e : v = cd_mk s := he
    subst e
    exact pk_le 4 i (fun _ => H) (fun h => absurd h (by omega))
  | succ f ih =>
    intro i v hi he
    have hp := cd_pt_lt s i
    refine pk_le 4 i (fun h => absurd h (by omega)) (fun _ => ⟨pk_in i 4 (by omega), nm_r (e' := nI (v ||| 2 ^ (cd_pt s i + 3 - i))) ?_ (nm_r (nI_1 i) (ih (i + 1) _ (by omega) he))⟩)
    rw [nI_clamp (by omega), h1 i (by omega), show nI (cd_pt s i) + 4 = nI (cd_pt s i + 4) from nI_add _ 4, show nI (cd_pt s i + 4) - 1 = nI (cd_pt s i + 4 - 1) from pk_sub (b := 1) (by omega), pk_sub (by omega), show cd_pt s i + 4 - 1 - i = cd_pt s i + 3 - i by omega, cd_p2 _ (by omega), cd_or]
theorem cd_marks {post : Int32 → Prop} {ch rc : Int32} {a1 a2 a3 a4 : Nat → Int32} {s : Nat} (h1 : ∀ j, j < 4 → a1 j = nI (cd_pt s j)) (H : post (nI (cd_mk s))) :
    wpX_marks post (ch, rc, a1, a2, a3, a4) :=
  ⟨4 + 1, cd_m4 h1 H 4 0 0 rfl rfl⟩
end
section
theorem cd_bt7 {post : Int32 → Prop} {u hi : Nat} (hu : u < 2 ^ 31) (hh : hi < 32) :
    ∀ f b acc, b + f = hi → post (nI (acc + cd_bg u f b)) → wX_between_7 post (nI u) (nI hi) (f + 1) (nI acc) (nI b) := by
  intro f
  induction f with
  | zero =>
    intro b acc hb H
    exact pk_le hi b (fun _ => H) (fun h => absurd h (by omega))
  | succ f ih =>
    intro b acc hb H
    have H' : post (nI (acc + (u / 2 ^ b % 2 + cd_bg u f (b + 1)))) := H
    rw [← Nat.add_assoc] at H'
    refine pk_le hi b (fun h => absurd h (by omega)) (fun _ => nm_r (e' := nI (acc + u / 2 ^ b % 2)) ?_ (nm_r (nI_1 b) (ih (b + 1) _ (by omega) H')))
    rw [cd_b1 hu (by omega), nI_add]
theorem cd_btw {post : Int32 → Prop} {u lo hi : Nat} (hu : u < 2 ^ 31) (hh : hi < 32) (hl : lo < hi) (H : post (nI (cd_bg u (hi - (lo + 1)) (lo + 1)))) :
    wpX_between post () (nI u) (nI lo) (nI hi) := by
  unfold wpX_between
  refine nm_r (nI_1 lo) ⟨hi - (lo + 1) + 1, cd_bt7 hu hh (hi - (lo + 1)) (lo + 1) 0 (by omega) ?_⟩
  rw [Nat.zero_add]
  exact H
theorem cd_g1 (A x g w : Int32) : A + x * g + x * w = A + x * (g + w) := by grind
theorem cd_g2 (A x g w : Int32) : A + -x * g + x * w = A + x * (-g + w) := by grind
theorem cd_vg_s (G : Nat → Int) (u l f b : Nat) : cd_vg G u l (f + 1) b = (if u / 2 ^ b % 2 = 0 then 0 else if u / 2 ^ (b - l) % 2 = 0 then (if cd_bg u (b - (b - l + 1)) (b - l + 1) % 2 = 0 then G (cd_nx u b (b - l)) else - G (cd_nx u b (b - l))) else 0) + cd_vg G u l f (b + 1) := rfl
theorem cd_mv2 {post : St2 → Prop} {ch rc : Int32} {a1 a2 a3 : Nat → Int32} {G : Nat → Int} {u l : Nat} (N : Nat) (hN : N = 2048) (hu : u < 2048) (hl : 1 ≤ l) :
    ∀ f b a4, b + f = 11 → l ≤ b → (∀ b4 : Nat → Int32, cd_S b4 G N = cd_S a4 G N + a3 u * Int32.ofInt (cd_vg G u l f b) → post (ch, rc, a1, a2, a3, b4)) →
      wX_move_2 post (nI u) (nI l) ch rc (f + 1) (nI b) a1 a2 a3 a4 := by
  intro f
  induction f with
  | zero =>
    intro b a4 hb hlb H
    refine pk_le 11 b (fun _ => H a4 ?_) (fun h => absurd h (by omega))
    rw [show cd_vg G u l 0 b = 0 from rfl, show Int32.ofInt 0 = 0 by decide, Int32.mul_zero, Int32.add_zero]
  | succ f ih =>
    intro b a4 hb hlb H
    have e0 := cd_b1 (n := u) (k := b) (by omega) (by omega)
    have e1 := cd_b1 (n := u) (k := b - l) (by omega) (by omega)
    have q0 : u / 2 ^ b % 2 < 2 := Nat.mod_lt _ (by decide)
    have q1 : u / 2 ^ (b - l) % 2 < 2 := Nat.mod_lt _ (by decide)
    have hs := cd_vg_s G u l f b
    refine pk_le 11 b (fun h => absurd h (by omega)) (fun _ => nm_r (e' := nI (b - l)) (pk_sub hlb) ?_)
    refine pk_eq (u / 2 ^ b % 2) 0 (fun h0 => nm_r (nI_1 b) ?_) (fun h0 => ?_) e0 rfl (by omega) (by omega)
    · refine ih (b + 1) a4 (by omega) (by omega) (fun b4 h4 => H b4 ?_)
      rw [h4, hs, if_pos h0, Int.zero_add]
    refine pk_eq (u / 2 ^ (b - l) % 2) 0 (fun h1 => ?_) (fun h1 => nm_r (nI_1 b) ?_) e1 rfl (by omega) (by omega)
    · have hx : cd_nx u b (b - l) < 2048 := cd_nx_lt hu (by omega)
      have hP := cd_bg_le u (b - (b - l + 1)) (b - l + 1)
      refine cd_btw (by omega) (by omega) (by omega) ?_
      refine nm_r (e' := nI (cd_nx u b (b - l))) ?_ ⟨pk_in _ 2048 hx, ?_⟩
      · rw [cd_p2 b (by omega), cd_p2 (b - l) (by omega), show (-1 : Int32) = nI 4294967295 by decide, cd_xor, cd_and, cd_or]
        rfl
      · refine pk_eq (cd_bg u (b - (b - l + 1)) (b - l + 1) % 2) 0 (fun h2 => ⟨pk_in u 2048 hu, pk_in _ 2048 hx, nm_r (e' := upd a4 (cd_nx u b (b - l)) (a4 (cd_nx u b (b - l)) + a3 u)) (by rw [nI_clamp (by omega), nI_clamp (by omega)]) (nm_r (nI_1 b) ?_)⟩) (fun h2 => ⟨pk_in u 2048 hu, pk_in _ 2048 hx, nm_r (e' := upd a4 (cd_nx u b (b - l)) (a4 (cd_nx u b (b - l)) + -(a3 u))) (by rw [nI_clamp (by omega), nI_clamp (by omega)]) (nm_r (nI_1 b) ?_)⟩) (pk_andN (by omega) 1 (by decide)) rfl (by omega) (by omega)
        · refine ih (b + 1) _ (by omega) (by omega) (fun b4 h4 => H b4 ?_)
          rw [h4, cd_S_up rfl N (by omega), hs, if_neg h0, if_pos h1, if_pos h2, Int32.ofInt_add]
          exact cd_g1 _ _ _ _
        · refine ih (b + 1) _ (by omega) (by omega) (fun b4 h4 => H b4 ?_)
          rw [h4, cd_S_up rfl N (by omega), hs, if_neg h0, if_pos h1, if_neg h2, Int32.ofInt_add, Int32.ofInt_neg]
          exact cd_g2 _ _ _ _
    · refine ih (b + 1) a4 (by omega) (by omega) (fun b4 h4 => H b4 ?_)
      rw [h4, hs, if_neg h0, if_neg h1, Int.zero_add]
theorem cd_move {post : St2 → Prop} {ch rc : Int32} {a1 a2 a3 a4 : Nat → Int32} {G : Nat → Int} {u l : Nat} (N : Nat) (hN : N = 2048) (hu : u < 2048) (hl : 1 ≤ l) (h8 : l < 8)
    (H : ∀ b4 : Nat → Int32, cd_S b4 G N = cd_S a4 G N + a3 u * Int32.ofInt (cd_mv G l u) → post (ch, rc, a1, a2, a3, b4)) :
    wpX_move post (ch, rc, a1, a2, a3, a4) (nI u) (nI l) :=
  ⟨11 - l + 1, cd_mv2 N hN hu hl (11 - l) l a4 (by omega) (Nat.le_refl l) H⟩
theorem cd_fl {s f : Nat → Int32} {i : Nat} {x : Int32} (h : ∀ j, j < i → s j = f j) (hx : x = f i) : ∀ j, j < i + 1 → upd s i x j = f j := by
  intro j hj
  by_cases e : j = i
  · rw [e, pk_us, hx]
  · rw [pk_un e]
    exact h j (by omega)
theorem cd_98 {post : Int32 → St2 → Prop} {J : Int32 → Int32 → Int32 → (Nat → Int32) → (Nat → Int32) → (Nat → Int32) → (Nat → Int32) → Prop} {k : Nat} {ch rc : Int32} {a1 a2 a3 a4 : Nat → Int32}
    (hJ : ∀ b3 : Nat → Int32, (∀ j, j < 2048 → b3 j = a4 j) → J (nI (k + 1)) ch rc a1 a2 b3 a4) : ∃ n, wX_strip_98 post J (nI k) ch rc n 0 a1 a2 a3 a4 :=
  pk_loop (fun n i s => wX_strip_98 post J (nI k) ch rc n (nI i) a1 a2 s a4) (fun i s => ∀ j, j < i → s j = a4 j) 2048 0 a3 (by omega) (fun j hj => absurd hj (by omega))
    (fun n s h => pk_le 2048 2048 (fun _ => nm_r (nI_1 k) (hJ s h)) (fun z => absurd z (by omega)))
    (fun n i s hi h hw => pk_le 2048 i (fun z => absurd z (by omega)) (fun _ => ⟨pk_in i 2048 hi, pk_in i 2048 hi, nm_r (e' := upd s i (a4 i)) (by rw [nI_clamp (by omega)]) (nm_r (nI_1 i) (hw _ (cd_fl h rfl)))⟩))
theorem cd_S_s (a : Nat → Int32) (G : Nat → Int) (n : Nat) : cd_S a G (n + 1) = cd_S a G n + a n * Int32.ofInt (G n) := rfl
theorem cd_63 {post : Int32 → St2 → Prop} {J : Int32 → Int32 → Int32 → (Nat → Int32) → (Nat → Int32) → (Nat → Int32) → (Nat → Int32) → Prop} {k l : Nat} {ch rc : Int32} {a1 a2 a3 a4 : Nat → Int32} {G : Nat → Int} (N : Nat) (hN : N = 2048)
    (hk : k < 8) (hl : a2 k = nI l) (h1 : 1 ≤ l) (h8 : l < 8) (h0 : cd_S a4 G N = 0)
    (hJ : ∀ b3 b4 : Nat → Int32, cd_S b3 G N = cd_S a3 (cd_mv G l) N → J (nI (k + 1)) ch rc a1 a2 b3 b4) : ∃ n, wX_strip_63 post J (nI k) n 0 ch rc a1 a2 a3 a4 :=
  pk_loop (fun n i s => wX_strip_63 post J (nI k) n (nI i) ch rc a1 a2 a3 s) (fun i s => cd_S s G N = cd_S a3 (cd_mv G l) i) N 0 a4 (by omega) h0
    (fun n s h => pk_le 2048 N (fun _ => cd_98 (fun b3 h3 => hJ b3 s ((cd_S_cg N (fun j hj => h3 j (by omega))).trans h))) (fun z => absurd z (by omega)))
    (fun n i s hi h hw => pk_le 2048 i (fun z => absurd z (by omega)) (fun _ => ⟨pk_in i 2048 (by omega), br_c
      (fun g => nm_r (nI_1 i) (hw s (by
        have g' : a3 i = 0 := by rw [← nI_clamp (n := i) (by omega)]; exact g
        rw [cd_S_s, g', Int32.zero_mul, Int32.add_zero]
        exact h)))
      (fun g => ⟨pk_in k 8 hk, by
        rw [nI_clamp (n := k) (by omega), hl]
        exact cd_move (G := G) N hN (by omega) h1 h8 (fun b4 h4 => nm_r (nI_1 i) (hw b4 (by rw [h4, cd_S_s, h])))⟩)⟩))
theorem cd_41 {post : Int32 → St2 → Prop} {J : Int32 → Int32 → Int32 → (Nat → Int32) → (Nat → Int32) → (Nat → Int32) → (Nat → Int32) → Prop} {k l : Nat} {ch rc : Int32} {a1 a2 a3 a4 : Nat → Int32} {G : Nat → Int} (N : Nat) (hN : N = 2048)
    (hk : k < 8) (hl : a2 k = nI l) (h1 : 1 ≤ l) (h8 : l < 8)
    (hJ : ∀ b3 b4 : Nat → Int32, cd_S b3 G N = cd_S a3 (cd_mv G l) N → J (nI (k + 1)) ch rc a1 a2 b3 b4) : ∃ n, wX_strip_41 post J (nI k) ch rc n 0 a1 a2 a3 a4 :=
  pk_loop (fun n i s => wX_strip_41 post J (nI k) ch rc n (nI i) a1 a2 a3 s) (fun i s => ∀ j, j < i → s j = (fun _ => 0) j) N 0 a4 (by omega) (fun j hj => absurd hj (by omega))
    (fun n s h => pk_le 2048 N (fun _ => cd_63 N hN hk hl h1 h8 (cd_S_0 N h) hJ) (fun z => absurd z (by omega)))
    (fun n i s hi h hw => pk_le 2048 i (fun z => absurd z (by omega)) (fun _ => ⟨pk_in i 2048 (by omega), nm_r (e' := upd s i 0) (by rw [nI_clamp (by omega)]) (nm_r (nI_1 i) (hw _ (cd_fl h rfl)))⟩))
theorem cd_S_15 {a : Nat → Int32} : ∀ N, cd_S a (fun u => if u = 15 then 1 else 0) N = if 15 < N then a 15 else 0 := by
  intro N
  induction N with
  | zero => rfl
  | succ N ih =>
    rw [cd_S_s, ih]
    by_cases e : N = 15
    · subst e
      rw [if_neg (show ¬ 15 < 15 by omega), if_pos (show 15 < 15 + 1 by omega), if_pos (show 15 = 15 from rfl), show Int32.ofInt 1 = 1 by decide, Int32.mul_one, Int32.zero_add]
    · rw [if_neg e, show Int32.ofInt 0 = 0 by decide, Int32.mul_zero, Int32.add_zero]
      by_cases g : 15 < N
      · rw [if_pos g, if_pos (by omega)]
      · rw [if_neg g, if_neg (by omega)]
theorem cd_31 {post : Int32 → St2 → Prop} {ch : Int32} {a1 a2 : Nat → Int32} {rf : Nat → Nat} {K : Nat} {V : Int32} (N : Nat) (hN : N = 2048) (hK : K < 8)
    (h2 : ∀ j, j < K → a2 j = nI (rf j)) (hr : ∀ j, j < K → 0 < rf j ∧ rf j < 8)
    (H : ∀ b3 b4 : Nat → Int32, post V (ch, nI K, a1, a2, b3, b4)) :
    ∀ f k a3 a4, k + f = K → cd_S a3 (cd_Ff rf f k) N = V → wX_strip_31 post (f + 1) (nI k) ch (nI K) a1 a2 a3 a4 := by
  intro f
  induction f with
  | zero =>
    intro k a3 a4 hk hV
    have e : cd_S a3 (cd_Ff rf 0 k) N = a3 15 := (cd_S_15 N).trans (if_pos (by omega))
    have e' : a3 15 = V := e.symm.trans hV
    refine pk_le K k (fun _ => ?_) (fun h => absurd h (by omega))
    rw [e']
    exact H a3 a4
  | succ f ih =>
    intro k a3 a4 hk hV
    have g := hr k (by omega)
    refine pk_le K k (fun h => absurd h (by omega)) (fun _ => ?_)
    exact cd_41 (G := cd_Ff rf f (k + 1)) N hN (by omega) (h2 k (by omega)) g.1 g.2 (fun b3 b4 h => ih (k + 1) b3 b4 (by omega) (h.trans hV))
theorem cd_strip {post : Int32 → St2 → Prop} {ch : Int32} {a1 a2 a3 a4 : Nat → Int32} {rf : Nat → Nat} {K st : Nat} (hst : st < 2048) (hK : K < 8)
    (h2 : ∀ j, j < K → a2 j = nI (rf j)) (hr : ∀ j, j < K → 0 < rf j ∧ rf j < 8)
    (H : ∀ b3 b4 : Nat → Int32, post (Int32.ofInt (cd_Ff rf K 0 st)) (ch, nI K, a1, a2, b3, b4)) :
    wpX_strip post (ch, nI K, a1, a2, a3, a4) (nI st) := by
  have main : ∀ N, N = 2048 → ∃ n, wX_strip_2 post (nI st) ch (nI K) n 0 a1 a2 a3 a4 := by
    intro N hN
    refine pk_loop (fun n i s => wX_strip_2 post (nI st) ch (nI K) n (nI i) a1 a2 s a4) (fun i s => ∀ j, j < i → s j = (fun _ => 0) j) N 0 a3 (by omega) (fun j hj => absurd hj (by omega)) ?_ ?_
    · intro n s h
      refine pk_le 2048 N (fun _ => ⟨pk_in st 2048 hst, nm_r (e' := upd s st 1) (by rw [nI_clamp (by omega)]) ⟨K + 1, ?_⟩⟩) (fun z => absurd z (by omega))
      refine cd_31 N hN hK h2 hr H K 0 _ a4 (by omega) ?_
      have hs0 : s st = 0 := h st (by omega)
      rw [cd_S_up (a := s) (d := 1) (by rw [hs0, Int32.zero_add]) N (by omega), cd_S_0 N h, Int32.zero_add, Int32.one_mul]
    · intro n i s hi h hw
      exact pk_le 2048 i (fun z => absurd z (by omega)) (fun _ => ⟨pk_in i 2048 (by omega), nm_r (e' := upd s i 0) (by rw [nI_clamp (by omega)]) (nm_r (nI_1 i) (hw _ (cd_fl h rfl)))⟩)
  exact main 2048 rfl
end
section
theorem cd_char {post : Int32 → St2 → Prop} {ch rc : Int32} {a1 a2 a3 a4 : Nat → Int32} {s m : Nat} (hs : s < 4096) (hm : m < 4096) (h0 : 0 < cd_rd m) (he : cd_rd s = cd_rd m) (hk : cd_mk s < 2048)
    (H : ∀ (rc' : Int32) (b1 b2 b3 b4 : Nat → Int32), post (Int32.ofInt (cd_ch s m)) (ch, rc', b1, b2, b3, b4)) :
    wpX_character post (ch, rc, a1, a2, a3, a4) (nI s) (nI m) := by
  unfold wpX_character
  dsimp only
  have hm7 := cd_rd_le m
  have hl4 := cd_rm_len m 4 0
  refine cd_read hm (fun b1 hb1 => ?_)
  refine br_f (nI_ne0 h0 (by omega)) (cd_wantP (hb1 h0) (fun b2 hb2 => ?_))
  refine cd_read hs (fun c1 hc1 => ?_)
  refine br_t (congrArg nI he) (cd_marks (hc1 (by omega)) ?_)
  exact cd_strip hk (by omega) hb2 (cd_rf_in m) (fun b3 b4 => H _ _ _ _ _)
theorem cd_van {post : Int32 → St2 → Prop} {ch rc : Int32} {a1 a2 a3 a4 : Nat → Int32} {s m : Nat} (hs : s < 4096) (hm : m < 4096) (h0 : 0 < cd_rd m) (he : cd_rd s = cd_rd m) (hk : cd_mk s < 2048)
    (H1 : Int32.ofInt (cd_ch s m) = 0 → ∀ (rc' : Int32) (b1 b2 b3 b4 : Nat → Int32), post 1 (ch, rc', b1, b2, b3, b4))
    (H0 : ¬ Int32.ofInt (cd_ch s m) = 0 → ∀ (rc' : Int32) (b1 b2 b3 b4 : Nat → Int32), post 0 (ch, rc', b1, b2, b3, b4)) :
    wpX_vanishes post (ch, rc, a1, a2, a3, a4) (nI s) (nI m) := by
  unfold wpX_vanishes
  dsimp only
  exact cd_char hs hm h0 he hk (fun rc' b1 b2 b3 b4 => br_c (fun z => H1 z _ _ _ _ _) (fun z => H0 z _ _ _ _ _))
theorem cd_choose {post : Int32 → St2 → Prop} {ch rc : Int32} {a1 a2 a3 a4 : Nat → Int32} {s : Nat} (hs : s < 4096) (h0 : 0 < cd_rd s)
    (H : ∀ (b1 : Nat → Int32), post (nI (cd_rd s)) (nI s, rc, b1, a2, a3, a4)) :
    wpX_choose post (ch, rc, a1, a2, a3, a4) (nI s) := by
  unfold wpX_choose
  dsimp only
  have h7 := cd_rd_le s
  exact cd_read hs (fun b1 _ => br_f (nI_ne0 h0 (by omega)) (H b1))
theorem cd_at {post : Int32 → St2 → Prop} {rc : Int32} {a1 a2 a3 a4 : Nat → Int32} {s m : Nat} (hp : 0 < s) (hs : s < 4096) (hm : m < 4096) (h0 : 0 < cd_rd m) (he : cd_rd s = cd_rd m) (hk : cd_mk s < 2048)
    (H : ∀ (rc' : Int32) (b1 b2 b3 b4 : Nat → Int32), post (Int32.ofInt (cd_ch s m)) (nI s, rc', b1, b2, b3, b4)) :
    wpX_at post (nI s, rc, a1, a2, a3, a4) (nI m) := by
  unfold wpX_at
  dsimp only
  exact br_f (nI_ne0 hp (by omega)) (cd_char hs hm h0 he hk H)
theorem cd_deg {post : Int32 → St2 → Prop} {ch rc : Int32} {a1 a2 a3 a4 : Nat → Int32} {s : Nat} (hs : s < 4096) (h0 : 0 < cd_rd s) (hk : cd_mk s < 2048)
    (H : ∀ (rc' : Int32) (b1 b2 b3 b4 : Nat → Int32), post (Int32.ofInt (cd_dg (cd_rd s) s)) (ch, rc', b1, b2, b3, b4)) :
    wpX_degree post (ch, rc, a1, a2, a3, a4) (nI s) := by
  unfold wpX_degree
  dsimp only
  have h7 := cd_rd_le s
  refine cd_read hs (fun b1 hb1 => ?_)
  refine br_f (nI_ne0 h0 (by omega)) (cd_wantO h7 (fun b2 hb2 => ?_))
  refine cd_marks (hb1 h0) ?_
  exact cd_strip hk (by omega) hb2 (fun j _ => ⟨Nat.one_pos, by decide⟩) (fun b3 b4 => H _ _ _ _ _)
end
section
theorem cd_o0 : Int32.ofInt 0 = 0 := by decide
theorem cd_o1 : Int32.ofInt 1 = 1 := by decide
theorem cd_om : Int32.ofInt (-1) = -1 := by decide
def cd_par (t : Nat) : Int := if t % 2 = 0 then 1 else -1
theorem cd_lt_le (a b : Nat) : cd_lt a b ≤ 1 := by
  unfold cd_lt
  split <;> omega
theorem cd_ltb {A : Int32 → Prop} {c d : Nat} (hc : c < 16) (hd : d < 16) (H : A (nI (cd_lt c d))) : (nI d ≤ nI c → A 0) ∧ (¬ nI d ≤ nI c → A 1) :=
  pk_le d c (fun h => by
    rw [show cd_lt c d = 0 from if_neg (by omega)] at H
    exact H) (fun h => by
    rw [show cd_lt c d = 1 from if_pos h] at H
    exact H)
theorem cd_s152 {post : Int32 → Prop} {z0 z1 : Nat} (h0 : z0 ≤ 1) (h1 : z1 ≤ 9) (H : post (Int32.ofInt (cd_par (z1 + z0)))) : wL_sign_152 post (nI z0) (nI z1) := by
  unfold wL_sign_152
  unfold cd_par at H
  refine nm_r (nI_add z1 z0) ⟨by decide, ?_⟩
  refine pk_eq ((z1 + z0) % 2) 0 (fun h => ?_) (fun h => ?_) (pk_rem (d := 2) (by omega) (by omega) (by omega)) rfl (by omega) (by omega)
  · rw [if_pos h, cd_o1] at H
    exact H
  · rw [if_neg h, cd_om] at H
    exact H
theorem cd_s140 {post : Int32 → Prop} {c d z0 z1 : Nat} (hc : c < 16) (hd : d < 16) (h0 : z0 ≤ 1) (h1 : z1 ≤ 8) (H : post (Int32.ofInt (cd_par (z1 + z0 + cd_lt c d)))) : wL_sign_140 post (nI c) (nI d) (nI z0) (nI z1) := by
  unfold wL_sign_140
  rw [nI_add]
  exact cd_ltb (A := fun z => wL_sign_152 post z (nI (z1 + z0))) hc hd (cd_s152 (cd_lt_le _ _) (by omega) H)
theorem cd_s128 {post : Int32 → Prop} {b c d z0 z1 : Nat} (hb : b < 16) (hc : c < 16) (hd : d < 16) (h0 : z0 ≤ 1) (h1 : z1 ≤ 7) (H : post (Int32.ofInt (cd_par (z1 + z0 + cd_lt b d + cd_lt c d)))) : wL_sign_128 post (nI b) (nI c) (nI d) (nI z0) (nI z1) := by
  unfold wL_sign_128
  rw [nI_add]
  exact cd_ltb (A := fun z => wL_sign_140 post (nI c) (nI d) z (nI (z1 + z0))) hb hd (cd_s140 hc hd (cd_lt_le _ _) (by omega) H)
theorem cd_s117 {post : Int32 → Prop} {b c d z0 z1 : Nat} (hb : b < 16) (hc : c < 16) (hd : d < 16) (h0 : z0 ≤ 1) (h1 : z1 ≤ 6) (H : post (Int32.ofInt (cd_par (z1 + z0 + cd_lt b c + cd_lt b d + cd_lt c d)))) : wL_sign_117 post (nI b) (nI c) (nI d) (nI z0) (nI z1) := by
  unfold wL_sign_117
  rw [nI_add]
  exact cd_ltb (A := fun z => wL_sign_128 post (nI b) (nI c) (nI d) z (nI (z1 + z0))) hb hc (cd_s128 hb hc hd (cd_lt_le _ _) (by omega) H)
theorem cd_s105 {post : Int32 → Prop} {a b c d z0 z1 : Nat} (ha : a < 16) (hb : b < 16) (hc : c < 16) (hd : d < 16) (h0 : z0 ≤ 1) (h1 : z1 ≤ 5) (H : post (Int32.ofInt (cd_par (z1 + z0 + cd_lt a d + cd_lt b c + cd_lt b d + cd_lt c d)))) : wL_sign_105 post (nI a) (nI b) (nI c) (nI d) (nI z0) (nI z1) := by
  unfold wL_sign_105
  rw [nI_add]
  exact cd_ltb (A := fun z => wL_sign_117 post (nI b) (nI c) (nI d) z (nI (z1 + z0))) ha hd (cd_s117 hb hc hd (cd_lt_le _ _) (by omega) H)
theorem cd_s95 {post : Int32 → Prop} {a b c d z0 : Nat} (ha : a < 16) (hb : b < 16) (hc : c < 16) (hd : d < 16) (h0 : z0 ≤ 1) (H : post (Int32.ofInt (cd_par (z0 + cd_lt a c + cd_lt a d + cd_lt b c + cd_lt b d + cd_lt c d)))) : wL_sign_95 post (nI a) (nI b) (nI c) (nI d) (nI z0) := by
  unfold wL_sign_95
  exact cd_ltb (A := fun z => wL_sign_105 post (nI a) (nI b) (nI c) (nI d) z (nI z0)) ha hc (cd_s105 ha hb hc hd (cd_lt_le _ _) (by omega) H)
theorem cd_sign {post : Int32 → Prop} {r : Nat} (hr : r < 2 ^ 31) (H : post (Int32.ofInt (cd_sg r))) : wpL_sign post () (nI r) := by
  unfold wpL_sign
  unfold cd_sg at H
  refine nm_r (e' := nI (r % 16)) (pk_andN (by omega) 4 (by decide)) (nm_r (e' := nI (r / 2 ^ 4 % 16)) (cd_b15 (k := 4) hr (by omega)) (nm_r (e' := nI (r / 2 ^ 8 % 16)) (cd_b15 (k := 8) hr (by omega)) (nm_r (e' := nI (r / 2 ^ 12 % 16)) (cd_b15 (k := 12) hr (by omega)) ?_)))
  have ha : r % 16 < 16 := Nat.mod_lt _ (by decide)
  have hb : r / 2 ^ 4 % 16 < 16 := Nat.mod_lt _ (by decide)
  have hc : r / 2 ^ 8 % 16 < 16 := Nat.mod_lt _ (by decide)
  have hd : r / 2 ^ 12 % 16 < 16 := Nat.mod_lt _ (by decide)
  generalize r % 16 = a at *
  generalize r / 2 ^ 4 % 16 = b at *
  generalize r / 2 ^ 8 % 16 = c at *
  generalize r / 2 ^ 12 % 16 = d at *
  unfold cd_sn at H
  refine pk_lt 3 a (fun h => by rw [if_pos h, cd_o0] at H; exact H) (fun h => ?_)
  rw [if_neg (show ¬ 3 < a by omega)] at H
  refine pk_lt 3 b (fun h => by rw [if_pos h, cd_o0] at H; exact H) (fun h => ?_)
  rw [if_neg (show ¬ 3 < b by omega)] at H
  refine pk_lt 3 c (fun h => by rw [if_pos h, cd_o0] at H; exact H) (fun h => ?_)
  rw [if_neg (show ¬ 3 < c by omega)] at H
  refine pk_lt 3 d (fun h => by rw [if_pos h, cd_o0] at H; exact H) (fun h => ?_)
  rw [if_neg (show ¬ 3 < d by omega)] at H
  refine pk_eq a b (fun h => by rw [if_pos h, cd_o0] at H; exact H) (fun h => ?_)
  rw [if_neg h] at H
  refine pk_eq a c (fun h => by rw [if_pos h, cd_o0] at H; exact H) (fun h => ?_)
  rw [if_neg h] at H
  refine pk_eq a d (fun h => by rw [if_pos h, cd_o0] at H; exact H) (fun h => ?_)
  rw [if_neg h] at H
  refine pk_eq b c (fun h => by rw [if_pos h, cd_o0] at H; exact H) (fun h => ?_)
  rw [if_neg h] at H
  refine pk_eq b d (fun h => by rw [if_pos h, cd_o0] at H; exact H) (fun h => ?_)
  rw [if_neg h] at H
  refine pk_eq c d (fun h => by rw [if_pos h, cd_o0] at H; exact H) (fun h => ?_)
  rw [if_neg h] at H
  exact cd_ltb (A := fun z => wL_sign_95 post (nI a) (nI b) (nI c) (nI d) z) ha hb (cd_s95 ha hb hc hd (cd_lt_le _ _) H)
theorem cd_f4 {post : Int32 → Prop} {n : Nat} (hn : n < 2 ^ 31) (H : post (nI (cd_fc n))) :
    ∀ f k v, k + f = 11 → cd_fg n f k v = cd_fc n → wL_factorial_4 post (nI n) (f + 1) (nI v) (nI k) := by
  intro f
  induction f with
  | zero =>
    intro k v hk he
    have e : v = cd_fc n := he
    subst e
    exact pk_lt 10 k (fun _ => H) (fun h => absurd h (by omega))
  | succ f ih =>
    intro k v hk he
    have he' : cd_fg n f (k + 1) (if n < k then v * 1 else v * k) = cd_fc n := he
    refine pk_lt 10 k (fun h => absurd h (by omega)) (fun _ => pk_lt n k (fun h => nm_r (pk_mul v 1) (nm_r (nI_1 k) ?_)) (fun h => nm_r (pk_mul v k) (nm_r (nI_1 k) ?_)))
    · rw [if_pos h] at he'
      exact ih (k + 1) _ (by omega) he'
    · rw [if_neg (by omega)] at he'
      exact ih (k + 1) _ (by omega) he'
theorem cd_fact {post : Int32 → Prop} {n : Nat} (hn : n < 2 ^ 31) (H : post (nI (cd_fc n))) : wpL_factorial post () (nI n) :=
  ⟨9 + 1, cd_f4 hn H 9 2 1 rfl rfl⟩
section
variable {post : Int32 → St0 → Prop} {mc ms : Nat} {J208 : Int32 → Int32 → Prop} {J246 : Int32 → Int32 → Int32 → Int32 → Prop} {x4 x6 x7 x8 x9 x10 x11 x12 x13 : Int32} {kc ks : Nat} {ch rc : Int32} {b1 b2 b3 b4 : Nat → Int32}
theorem cd_295d {x14 x16 x18 x19 z0 : Int32} {k : Nat} (h : z0 = 0 ∨ x16 = 0) (H : ∀ y14 y16 : Int32, (z0 = 0 ∨ y16 = 0) → J246 y14 z0 y16 (nI (k + 1))) :
    wL_lawOf_295 post mc ms J208 J246 x4 x6 x7 x8 x9 x10 x11 x12 x13 x14 x16 (nI k) x18 x19 z0 kc ks ch rc b1 b2 b3 b4 := by
  unfold wL_lawOf_295
  refine br_c (fun g => ?_) (fun g => br_c (fun g2 => ?_) (fun g2 => ?_))
  · unfold wL_lawOf_321 wL_lawOf_322
    exact br_t rfl (nm_e (nm_r (nI_1 k) (H _ _ (Or.inr rfl))))
  · unfold wL_lawOf_321 wL_lawOf_322
    exact br_t rfl (nm_e (nm_r (nI_1 k) (H _ _ (Or.inr rfl))))
  · unfold wL_lawOf_322
    exact br_f (by decide) (nm_e (nm_r (nI_1 k) (H _ _ (Or.inl (h.resolve_right g)))))
theorem cd_295l {r p c k : Nat} (hr : r < 2 ^ 31) (hp : p < 8) (hc : c < 4)
    (H0 : r / 2 ^ (4 * c) % 16 < p → J246 (nI r - 0) 1 0 (nI (k + 1)))
    (H1 : p ≤ r / 2 ^ (4 * c) % 16 → J246 (nI (r - p * 2 ^ (4 * c))) 1 1 (nI (k + 1))) :
    wL_lawOf_295 post mc ms J208 J246 x4 x6 x7 x8 x9 x10 x11 x12 x13 (nI r) 1 (nI k) (nI p) (nI c) 1 kc ks ch rc b1 b2 b3 b4 := by
  unfold wL_lawOf_295
  have e4 : (4 : Int32) * nI c = nI (4 * c) := pk_mul 4 c
  have q : r / 2 ^ (4 * c) % 16 < 16 := Nat.mod_lt _ (by decide)
  refine br_f (by decide) (pk_lt (r / 2 ^ (4 * c) % 16) p (fun h => ?_) (fun h => ?_) (by rw [e4]; exact cd_b15 hr (by omega)) rfl (by omega) (by omega))
  · unfold wL_lawOf_321 wL_lawOf_322
    exact br_t rfl (nm_e (nm_r (nI_1 k) (H0 h)))
  · unfold wL_lawOf_322
    have g : p * 2 ^ (4 * c) ≤ r := Nat.mul_le_of_le_div _ _ _ (Nat.le_trans h (Nat.mod_le _ _))
    refine br_f (by decide) (nm_r (e' := nI (r - p * 2 ^ (4 * c))) ?_ (nm_r (nI_1 k) (H1 h)))
    rw [e4, cd_shl (by omega) (by omega), pk_sub g]
theorem cd_246d {code : Nat} : ∀ f k (x14 x15 x16 : Int32), k + f = 4 → (x15 = 0 ∨ x16 = 0) → J208 (x12 + 0) (nI (code + 1)) →
    wL_lawOf_246 post mc ms J208 x4 x6 x7 x8 x9 x10 x11 x12 (nI code) kc ks ch rc b1 b2 b3 b4 (f + 1) x14 x15 x16 (nI k) := by
  intro f
  induction f with
  | zero =>
    intro k x14 x15 x16 hk h H
    refine pk_le 4 k (fun _ => br_c (fun g => nm_e (nm_r (nI_1 code) H)) (fun g => br_t (h.resolve_left g) (nm_e (nm_r (nI_1 code) H)))) (fun z => absurd z (by omega))
  | succ f ih =>
    intro k x14 x15 x16 hk h H
    have T : ∀ y15 : Int32, ∀ y14 y16 : Int32, (y15 = 0 ∨ y16 = 0) → wL_lawOf_246 post mc ms J208 x4 x6 x7 x8 x9 x10 x11 x12 (nI code) kc ks ch rc b1 b2 b3 b4 (f + 1) y14 y15 y16 (nI (k + 1)) :=
      fun y15 y14 y16 g => ih (k + 1) y14 y15 y16 (by omega) g H
    refine pk_le 4 k (fun z => absurd z (by omega)) (fun _ => nm_e (nm_e ?_))
    refine br_c (fun g => ?_) (fun g => br_c (fun _ => ?_) (fun _ => br_c (fun _ => ?_) (fun _ => ?_)))
    · exact cd_295d (Or.inl rfl) (T 0)
    · exact cd_295d (Or.inr (h.resolve_left g)) (T 1)
    · exact cd_295d (Or.inr (h.resolve_left g)) (T 1)
    · exact cd_295d (Or.inl rfl) (T 0)
theorem cd_246 {m code : Nat} (hm : m < 2 ^ 31) (hc : code < 256) : ∀ f k r, k + f = 4 → r < 2 ^ 31 → J208 (x12 + Int32.ofInt (cd_tm m code f k r)) (nI (code + 1)) →
    wL_lawOf_246 post mc ms J208 x4 x6 (nI m) x8 x9 x10 x11 x12 (nI code) kc ks ch rc b1 b2 b3 b4 (f + 1) (nI r) 1 1 (nI k) := by
  intro f
  induction f with
  | zero =>
    intro k r hk hr H
    exact pk_le 4 k (fun _ => br_f (by decide) (br_f (by decide) (cd_sign hr (nm_e (nm_r (nI_1 code) H))))) (fun z => absurd z (by omega))
  | succ f ih =>
    intro k r hk hr H
    have hp := cd_pt_lt m k
    have hl : cd_lc code k < 4 := Nat.mod_lt _ (by decide)
    have e : cd_tm m code (f + 1) k r = if cd_pt m k = 0 ∧ ¬ cd_lc code k = 0 then 0 else if r / 2 ^ (4 * cd_lc code k) % 16 < cd_pt m k then 0 else cd_tm m code f (k + 1) (r - cd_pt m k * 2 ^ (4 * cd_lc code k)) := rfl
    rw [e] at H
    have L : ¬ (cd_pt m k = 0 ∧ ¬ cd_lc code k = 0) → wL_lawOf_295 post mc ms J208 (wL_lawOf_246 post mc ms J208 x4 x6 (nI m) x8 x9 x10 x11 x12 (nI code) kc ks ch rc b1 b2 b3 b4 (f + 1)) x4 x6 (nI m) x8 x9 x10 x11 x12 (nI code) (nI r) 1 (nI k) (nI (cd_pt m k)) (nI (cd_lc code k)) 1 kc ks ch rc b1 b2 b3 b4 := by
      intro g
      rw [if_neg g] at H
      refine cd_295l hr hp hl (fun h => ?_) (fun h => ?_)
      · rw [if_pos h, cd_o0] at H
        exact cd_246d f (k + 1) _ _ _ (by omega) (Or.inr rfl) H
      · rw [if_neg (by omega)] at H
        exact ih (k + 1) _ (by omega) (by omega) H
    refine pk_le 4 k (fun z => absurd z (by omega)) (fun _ => nm_r (cd_p7 hm (by omega)) (nm_r (cd_p3 (by omega) (by omega)) ?_))
    refine br_f (by decide) (pk_lt 0 (cd_pt m k) (fun g => ?_) (fun g => pk_eq (cd_lc code k) 0 (fun g2 => ?_) (fun g2 => ?_)))
    · exact L (fun z => absurd z.1 (by omega))
    · exact L (fun z => z.2 g2)
    · rw [if_pos ⟨by omega, g2⟩, cd_o0] at H
      exact cd_295d (Or.inl rfl) (fun y14 y16 h => cd_246d f (k + 1) y14 0 y16 (by omega) h H)
end
end
section
/-- the 37 codes of partitions of 1 .. 7 into at most four parts -/
def cd_T : List Nat := [1, 9, 2, 73, 10, 3, 585, 74, 18, 11, 4, 586, 82, 75, 19, 12, 5, 594, 587, 146, 83, 76, 27, 20, 13, 6, 658, 595, 588, 147, 91, 84, 77, 28, 21, 14, 7]
theorem cd_in0 : ∀ q, q < 64 → ∀ r, r < 64 → (cd_rd (64 * q + r) = 0 ∨ (64 * q + r) ∈ cd_T) := by decide +kernel
theorem cd_in {s : Nat} (hs : s < 4096) (h : 0 < cd_rd s) : s ∈ cd_T := by
  have t := cd_in0 (s / 64) (by omega) (s % 64) (by omega)
  rw [show 64 * (s / 64) + s % 64 = s by omega] at t
  exact t.resolve_left (by omega)
theorem cd_ct_mono (n s d : Nat) : cd_ct n s ≤ cd_ct n (s + d) := by
  induction d with
  | zero => exact Nat.le_refl _
  | succ d ih => exact Nat.le_trans ih (Nat.le_add_right _ _)
theorem cd_ct_tab : 1 ≤ cd_ct 1 700 ∧ 2 ≤ cd_ct 2 700 ∧ 3 ≤ cd_ct 3 700 ∧ 5 ≤ cd_ct 4 700 ∧ 6 ≤ cd_ct 5 700 ∧ 9 ≤ cd_ct 6 700 ∧ 11 ≤ cd_ct 7 700 := by decide +kernel
def cd_top (n a b c d : Nat) : Int64 := (((((((nI (cd_fc n)).toInt64) * ((nI a - nI b).toInt64)) * ((nI a - nI c).toInt64)) * ((nI a - nI d).toInt64)) * ((nI b - nI c).toInt64)) * ((nI b - nI d).toInt64)) * ((nI c - nI d).toInt64)
def cd_und (a b c d : Nat) : Int64 := (((nI (cd_fc a)).toInt64 * (nI (cd_fc b)).toInt64) * (nI (cd_fc c)).toInt64) * (nI (cd_fc d)).toInt64
def cd_c1 (s : Nat) : Bool := decide (cd_mk s < 2048) && (decide (cd_l0 s + cd_l1 s + cd_l2 s + cd_l3 s = cd_rd s + 6) && (decide (cd_l1 s < cd_l0 s) && (decide (cd_l2 s < cd_l1 s) && (decide (cd_l3 s < cd_l2 s) && decide (cd_r0 s < 65536)))))
def cd_c2 (s : Nat) : Bool := decide (¬ cd_und (cd_l0 s) (cd_l1 s) (cd_l2 s) (cd_l3 s) = 0) && decide (Int32.ofInt (cd_dg (cd_rd s) s) = (cd_top (cd_rd s) (cd_l0 s) (cd_l1 s) (cd_l2 s) (cd_l3 s) / cd_und (cd_l0 s) (cd_l1 s) (cd_l2 s) (cd_l3 s)).toInt32)
theorem cd_t1 : cd_T.all cd_c1 = true := by decide +kernel
theorem cd_t2 : cd_T.all cd_c2 = true := by decide +kernel
end
section
/-- the law's sum is the class's count, for s against every m of its size -/
def cd_row (s : Nat) : Bool := cd_T.all (fun m => !(decide (cd_rd m = cd_rd s)) || decide (cd_ch s m = cd_ls m (cd_r0 s) 256))
theorem cd_q1 : cd_row 1 = true := by decide +kernel
theorem cd_q9 : cd_row 9 = true := by decide +kernel
theorem cd_q2 : cd_row 2 = true := by decide +kernel
theorem cd_q73 : cd_row 73 = true := by decide +kernel
theorem cd_q10 : cd_row 10 = true := by decide +kernel
theorem cd_q3 : cd_row 3 = true := by decide +kernel
theorem cd_q585 : cd_row 585 = true := by decide +kernel
theorem cd_q74 : cd_row 74 = true := by decide +kernel
theorem cd_q18 : cd_row 18 = true := by decide +kernel
theorem cd_q11 : cd_row 11 = true := by decide +kernel
theorem cd_q4 : cd_row 4 = true := by decide +kernel
theorem cd_q586 : cd_row 586 = true := by decide +kernel
theorem cd_q82 : cd_row 82 = true := by decide +kernel
theorem cd_q75 : cd_row 75 = true := by decide +kernel
theorem cd_q19 : cd_row 19 = true := by decide +kernel
theorem cd_q12 : cd_row 12 = true := by decide +kernel
theorem cd_q5 : cd_row 5 = true := by decide +kernel
theorem cd_q594 : cd_row 594 = true := by decide +kernel
theorem cd_q587 : cd_row 587 = true := by decide +kernel
theorem cd_q146 : cd_row 146 = true := by decide +kernel
theorem cd_q83 : cd_row 83 = true := by decide +kernel
theorem cd_q76 : cd_row 76 = true := by decide +kernel
theorem cd_q27 : cd_row 27 = true := by decide +kernel
theorem cd_q20 : cd_row 20 = true := by decide +kernel
theorem cd_q13 : cd_row 13 = true := by decide +kernel
theorem cd_q6 : cd_row 6 = true := by decide +kernel
theorem cd_q658 : cd_row 658 = true := by decide +kernel
theorem cd_q595 : cd_row 595 = true := by decide +kernel
theorem cd_q588 : cd_row 588 = true := by decide +kernel
theorem cd_q147 : cd_row 147 = true := by decide +kernel
theorem cd_q91 : cd_row 91 = true := by decide +kernel
theorem cd_q84 : cd_row 84 = true := by decide +kernel
theorem cd_q77 : cd_row 77 = true := by decide +kernel
theorem cd_q28 : cd_row 28 = true := by decide +kernel
theorem cd_q21 : cd_row 21 = true := by decide +kernel
theorem cd_q14 : cd_row 14 = true := by decide +kernel
theorem cd_q7 : cd_row 7 = true := by decide +kernel
theorem cd_rows : ∀ s, s ∈ cd_T → cd_row s = true := by
  unfold cd_T
  exact List.forall_mem_cons.2 ⟨cd_q1, List.forall_mem_cons.2 ⟨cd_q9, List.forall_mem_cons.2 ⟨cd_q2, List.forall_mem_cons.2 ⟨cd_q73, List.forall_mem_cons.2 ⟨cd_q10, List.forall_mem_cons.2 ⟨cd_q3, List.forall_mem_cons.2 ⟨cd_q585, List.forall_mem_cons.2 ⟨cd_q74, List.forall_mem_cons.2 ⟨cd_q18, List.forall_mem_cons.2 ⟨cd_q11, List.forall_mem_cons.2 ⟨cd_q4, List.forall_mem_cons.2 ⟨cd_q586, List.forall_mem_cons.2 ⟨cd_q82, List.forall_mem_cons.2 ⟨cd_q75, List.forall_mem_cons.2 ⟨cd_q19, List.forall_mem_cons.2 ⟨cd_q12, List.forall_mem_cons.2 ⟨cd_q5, List.forall_mem_cons.2 ⟨cd_q594, List.forall_mem_cons.2 ⟨cd_q587, List.forall_mem_cons.2 ⟨cd_q146, List.forall_mem_cons.2 ⟨cd_q83, List.forall_mem_cons.2 ⟨cd_q76, List.forall_mem_cons.2 ⟨cd_q27, List.forall_mem_cons.2 ⟨cd_q20, List.forall_mem_cons.2 ⟨cd_q13, List.forall_mem_cons.2 ⟨cd_q6, List.forall_mem_cons.2 ⟨cd_q658, List.forall_mem_cons.2 ⟨cd_q595, List.forall_mem_cons.2 ⟨cd_q588, List.forall_mem_cons.2 ⟨cd_q147, List.forall_mem_cons.2 ⟨cd_q91, List.forall_mem_cons.2 ⟨cd_q84, List.forall_mem_cons.2 ⟨cd_q77, List.forall_mem_cons.2 ⟨cd_q28, List.forall_mem_cons.2 ⟨cd_q21, List.forall_mem_cons.2 ⟨cd_q14, List.forall_mem_cons.2 ⟨cd_q7, fun _ h => absurd h List.not_mem_nil⟩⟩⟩⟩⟩⟩⟩⟩⟩⟩⟩⟩⟩⟩⟩⟩⟩⟩⟩⟩⟩⟩⟩⟩⟩⟩⟩⟩⟩⟩⟩⟩⟩⟩⟩⟩⟩
end
section
theorem cd_tab1 {s : Nat} (h : s ∈ cd_T) : cd_mk s < 2048 ∧ cd_l0 s + cd_l1 s + cd_l2 s + cd_l3 s = cd_rd s + 6 ∧ cd_l1 s < cd_l0 s ∧ cd_l2 s < cd_l1 s ∧ cd_l3 s < cd_l2 s ∧ cd_r0 s < 65536 := by
  have t := List.all_eq_true.mp cd_t1 s h
  unfold cd_c1 at t
  simp only [Bool.and_eq_true, decide_eq_true_eq] at t
  exact t
theorem cd_tab2 {s : Nat} (h : s ∈ cd_T) : ¬ cd_und (cd_l0 s) (cd_l1 s) (cd_l2 s) (cd_l3 s) = 0 ∧ Int32.ofInt (cd_dg (cd_rd s) s) = (cd_top (cd_rd s) (cd_l0 s) (cd_l1 s) (cd_l2 s) (cd_l3 s) / cd_und (cd_l0 s) (cd_l1 s) (cd_l2 s) (cd_l3 s)).toInt32 := by
  have t := List.all_eq_true.mp cd_t2 s h
  unfold cd_c2 at t
  rw [Bool.and_eq_true] at t
  exact ⟨of_decide_eq_true t.1, of_decide_eq_true t.2⟩
theorem cd_tab3 {s m : Nat} (hs : s ∈ cd_T) (hm : m ∈ cd_T) (he : cd_rd m = cd_rd s) : cd_ch s m = cd_ls m (cd_r0 s) 256 := by
  have t := List.all_eq_true.mp (cd_rows s hs) m hm
  rcases Bool.or_eq_true _ _ |>.mp t with g | g
  · rw [decide_eq_true he] at g
    exact absurd g (by decide)
  · exact of_decide_eq_true g
theorem cd_ctN {n c : Nat} (h : c ≤ cd_ct n 700) : c ≤ cd_ct n 4095 := Nat.le_trans h (cd_ct_mono n 700 3395)
section
variable {post : Int32 → St0 → Prop} {mc ms kc ks : Nat} {ch rc : Int32} {b1 b2 b3 b4 : Nat → Int32}
theorem cd_208 {x4 x6 x8 x9 x10 x11 : Int32} {m r0 : Nat} (hm : m < 4096) (hr0 : r0 < 65536)
    (hr : ((x8 ||| (x9 <<< ((4 : Int32) &&& 31))) ||| (x10 <<< ((8 : Int32) &&& 31))) ||| (x11 <<< ((12 : Int32) &&& 31)) = nI r0)
    (hE : wL_lawOf_208 post mc ms x4 x6 (nI m) x8 x9 x10 x11 kc ks ch rc b1 b2 b3 b4 (0 + 1) (Int32.ofInt (cd_ls m r0 256)) (nI 256)) :
    ∀ f code, code + f = 256 → wL_lawOf_208 post mc ms x4 x6 (nI m) x8 x9 x10 x11 kc ks ch rc b1 b2 b3 b4 (f + 1) (Int32.ofInt (cd_ls m r0 code)) (nI code) := by
  intro f
  induction f with
  | zero =>
    intro code hc
    have e : code = 256 := by omega
    subst e
    exact hE
  | succ f ih =>
    intro code hc
    have t := ih (code + 1) (by omega)
    rw [show cd_ls m r0 (code + 1) = cd_ls m r0 code + cd_tm m code 4 0 r0 from rfl, Int32.ofInt_add] at t
    exact pk_le 256 code (fun h => absurd h (by omega)) (fun _ => nm_r hr ⟨4 + 1, cd_246 (by omega) (by omega) 4 0 r0 rfl (by omega) t⟩)
theorem cd_412 {s m n : Nat} {V : Int} {z : Int32} (hp : post 1 ()) (hs0 : 0 < s) (hs : s < 4096) (hm : m < 4096) (h1 : 1 ≤ n) (hsn : cd_rd s = n) (hmn : cd_rd m = n) (hV : cd_ch s m = V) :
    wL_lawOf_412 post mc ms (nI n) (nI s) (nI m) (nI (cd_l0 s)) (nI (cd_l1 s)) (nI (cd_l2 s)) (nI (cd_l3 s)) (Int32.ofInt V) z z kc ks ch rc b1 b2 b3 b4 := by
  have hT := cd_in hs (by omega)
  obtain ⟨hk, hsum, hl1, hl2, hl3, hr0⟩ := cd_tab1 hT
  obtain ⟨hu, hd⟩ := cd_tab2 hT
  have hn7 := cd_rd_le s
  unfold wL_lawOf_412
  refine br_t rfl (cd_choose hs (by omega) (fun c1 => ?_))
  refine br_t (congrArg nI hsn) (cd_at hs0 hs hm (by omega) (by omega) hk (fun rc' d1 d2 d3 d4 => ?_))
  refine br_t (congrArg Int32.ofInt hV) (cd_fact (by omega) (nm_e ?_))
  refine cd_fact (by omega) (cd_fact (by omega) (cd_fact (by omega) (cd_fact (by omega) (nm_e ?_))))
  refine cd_deg hs (by omega) hk (fun rc'' e1 e2 e3 e4 => ?_)
  rw [hsn] at hd ⊢
  exact ⟨hu, br_t hd hp⟩
theorem cd_end {s m n : Nat} (hp : post 1 ()) (hs0 : 0 < s) (hs : s < 4096) (hm : m < 4096) (h1 : 1 ≤ n) (hsn : cd_rd s = n) (hmn : cd_rd m = n) :
    wL_lawOf_208 post mc ms (nI n) (nI s) (nI m) (nI (cd_l0 s)) (nI (cd_l1 s)) (nI (cd_l2 s)) (nI (cd_l3 s)) kc ks ch rc b1 b2 b3 b4 (0 + 1) (Int32.ofInt (cd_ls m (cd_r0 s) 256)) (nI 256) := by
  have hT := cd_in hs (by omega)
  have hV := cd_tab3 hT (cd_in hm (by omega)) (by omega)
  have hk := (cd_tab1 hT).1
  generalize cd_ls m (cd_r0 s) 256 = V at *
  refine pk_le 256 256 (fun _ => cd_char hs hm (by omega) (by omega) hk (fun rc' c1 c2 c3 c4 => ?_)) (fun h => absurd h (by omega))
  refine br_t (congrArg Int32.ofInt hV) (cd_van hs hm (by omega) (by omega) hk (fun z rc'' d1 d2 d3 d4 => ?_) (fun z rc'' d1 d2 d3 d4 => ?_))
  · exact br_t (by rw [← hV]; exact z) (cd_412 hp hs0 hs hm h1 hsn hmn hV)
  · exact br_f (by rw [← hV]; exact z) (cd_412 hp hs0 hs hm h1 hsn hmn hV)
theorem cd_84 {n c : Nat} (hp : post 1 ()) (h1 : 1 ≤ n) (h7 : n ≤ 7) (hc0 : 0 < c) (hc1 : c < 4096) (hc : c ≤ cd_ct n 4095) (p1 p2 : Int32) :
    wL_lawOf_84 post mc ms p1 p2 (nI n) (nI c) kc ks ch rc b1 b2 b3 b4 := by
  obtain ⟨j1, hj1, e1⟩ := pk_andE p1 31 (m := 2147483647) (by decide)
  obtain ⟨j2, hj2, e2⟩ := pk_andE p2 31 (m := 2147483647) (by decide)
  unfold wL_lawOf_84
  rw [e1, e2, pk_rem hj1 hc0 (by omega), pk_rem hj2 hc0 (by omega)]
  have g1 : j1 % c < c := Nat.mod_lt j1 hc0
  have g2 : j2 % c < c := Nat.mod_lt j2 hc0
  have hne : ¬ nI c = 0 := nI_ne0 hc0 (by omega)
  refine ⟨hne, cd_part h1 h7 (by omega) (Nat.lt_of_lt_of_le g1 hc) (fun s c1 hs0 hs hsn => ⟨hne, cd_part h1 h7 (by omega) (Nat.lt_of_lt_of_le g2 hc) (fun m d1 hm0 hm hmn => ?_)⟩)⟩
  obtain ⟨hk, hsum, hl1, hl2, hl3, hr0⟩ := cd_tab1 (cd_in hs (by omega))
  refine nm_r (e' := nI (cd_l0 s)) ?_ (nm_r (e' := nI (cd_l1 s)) ?_ (nm_r (e' := nI (cd_l2 s)) ?_ (nm_r (e' := nI (cd_l3 s)) ?_ ?_)))
  · rw [pk_andN (m := 7) (by omega) 3 (by decide)]
    exact nI_add _ 3
  · rw [show (nI s >>> ((3 : Int32) &&& 31)) &&& 7 = nI (s / 2 ^ 3 % 8) from cd_b7 (k := 3) (by omega) (by omega)]
    exact nI_add _ 2
  · rw [show (nI s >>> ((6 : Int32) &&& 31)) &&& 7 = nI (s / 2 ^ 6 % 8) from cd_b7 (k := 6) (by omega) (by omega)]
    exact nI_add _ 1
  · exact cd_sh (k := 9) (by omega) (by omega)
  have hE := cd_end (post := post) (mc := mc) (ms := ms) (kc := kc) (ks := ks) (ch := ch) (rc := rc) (b1 := d1) (b2 := b2) (b3 := b3) (b4 := b4) hp hs0 hs hm h1 hsn hmn
  have q0 : cd_l0 s < 16 := by unfold cd_l0; omega
  have q1 : cd_l1 s < 16 := by unfold cd_l1; omega
  have q2 : cd_l2 s < 16 := by unfold cd_l2; omega
  have q3 : cd_l3 s < 16 := by unfold cd_l3; omega
  have hr : ((nI (cd_l0 s) ||| (nI (cd_l1 s) <<< ((4 : Int32) &&& 31))) ||| (nI (cd_l2 s) <<< ((8 : Int32) &&& 31))) ||| (nI (cd_l3 s) <<< ((12 : Int32) &&& 31)) = nI (cd_r0 s) := by
    rw [show nI (cd_l1 s) <<< ((4 : Int32) &&& 31) = nI (cd_l1 s * 2 ^ 4) from cd_shl (k := 4) (by omega) (by omega), show nI (cd_l2 s) <<< ((8 : Int32) &&& 31) = nI (cd_l2 s * 2 ^ 8) from cd_shl (k := 8) (by omega) (by omega), show nI (cd_l3 s) <<< ((12 : Int32) &&& 31) = nI (cd_l3 s * 2 ^ 12) from cd_shl (k := 12) (by omega) (by omega), cd_or, cd_or, cd_or]
    rfl
  refine pk_eq (cd_l0 s + cd_l1 s + cd_l2 s + cd_l3 s) (n + 6) (fun _ => ?_) (fun h => absurd (by omega) h) (by rw [nI_add, nI_add, nI_add]) (nI_add n 6)
  refine pk_le (cd_l0 s) (cd_l1 s) (fun h => absurd h (by omega)) (fun _ => pk_le (cd_l1 s) (cd_l2 s) (fun h => absurd h (by omega)) (fun _ => pk_le (cd_l2 s) (cd_l3 s) (fun h => absurd h (by omega)) (fun _ => pk_le 0 (cd_l3 s) (fun _ => ⟨256 + 1, ?_⟩) (fun h => absurd h (by omega)))))
  exact cd_208 hm hr0 hr hE 256 0 rfl
end
theorem cd_cell {post : Int32 → Prop} {L : Nat} {xs : Nat → Int32} (hL : L ≤ 3) (i : Nat) (hi : i < 3) (H : ∀ r, post r) : wpL_cellAt post L xs () (nI i) :=
  pk_le L i (fun _ => H _) (fun h => ⟨pk_in i L h, H _⟩)
theorem cd_lawOf {post : Int32 → St0 → Prop} (hp : post 1 ()) (p0 p1 p2 : Int32) : wpL_lawOf post 100 5000 () p0 p1 p2 := by
  obtain ⟨j, hj, e⟩ := pk_andE p0 31 (m := 2147483647) (by decide)
  have g : j % 7 < 7 := Nat.mod_lt j (by decide)
  obtain ⟨t1, t2, t3, t4, t5, t6, t7⟩ := cd_ct_tab
  have hn : 1 ≤ 1 + j % 7 ∧ 1 + j % 7 ≤ 7 := by omega
  unfold wpL_lawOf
  refine ⟨by omega, by omega, 10, 4200, by omega, by omega, ?_⟩
  unfold wpX_init
  dsimp only
  refine ⟨by omega, by omega, by omega, by omega, by omega, by omega, by omega, by omega, by decide, nm_r (e' := nI (1 + j % 7)) ?_ ?_⟩
  · rw [e, show nI j - nI j / 7 * 7 = nI (j % 7) from pk_rem (d := 7) hj (by omega) (by omega)]
    exact nI_add 1 _
  revert hn
  generalize 1 + j % 7 = n
  intro hn
  refine pk_eq n 1 (fun h => ?_) (fun h1 => ?_)
  · subst h
    exact cd_84 (n := 1) (c := 1) hp (by omega) (by omega) (by omega) (by omega) (cd_ctN t1) p1 p2
  refine pk_eq n 2 (fun h => ?_) (fun h2 => ?_)
  · subst h
    exact cd_84 (n := 2) (c := 2) hp (by omega) (by omega) (by omega) (by omega) (cd_ctN t2) p1 p2
  refine pk_eq n 3 (fun h => ?_) (fun h3 => ?_)
  · subst h
    exact cd_84 (n := 3) (c := 3) hp (by omega) (by omega) (by omega) (by omega) (cd_ctN t3) p1 p2
  refine pk_eq n 4 (fun h => ?_) (fun h4 => ?_)
  · subst h
    exact cd_84 (n := 4) (c := 5) hp (by omega) (by omega) (by omega) (by omega) (cd_ctN t4) p1 p2
  refine pk_eq n 5 (fun h => ?_) (fun h5 => ?_)
  · subst h
    exact cd_84 (n := 5) (c := 6) hp (by omega) (by omega) (by omega) (by omega) (cd_ctN t5) p1 p2
  refine pk_eq n 6 (fun h => ?_) (fun h6 => ?_)
  · subst h
    exact cd_84 (n := 6) (c := 9) hp (by omega) (by omega) (by omega) (by omega) (cd_ctN t6) p1 p2
  have h7 : n = 7 := by omega
  subst h7
  exact cd_84 (n := 7) (c := 11) hp (by omega) (by omega) (by omega) (by omega) (cd_ctN t7) p1 p2
theorem i_vc (xs : Nat → Int32) (L : Nat) (hL : L ≤ 3) : wpL_law (fun r => r = 1) L xs := by
  unfold wpL_law
  refine cd_cell hL 0 (by omega) (fun r1 => cd_cell hL 1 (by omega) (fun r2 => cd_cell hL 2 (by omega) (fun r3 => ⟨100, 5000, by omega, by omega, ?_⟩)))
  exact cd_lawOf rfl r1 r2 r3
end
