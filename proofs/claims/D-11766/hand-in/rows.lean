section

/-! bits of small naturals -/
theorem md_or (a b : Nat) : nI a ||| nI b = nI (a ||| b) := by
  apply Int32.toBitVec_inj.1
  show BitVec.ofNat 32 a ||| BitVec.ofNat 32 b = BitVec.ofNat 32 (a ||| b)
  apply BitVec.eq_of_getLsbD_eq
  intro i hi
  simp [hi]
theorem md_and (a b : Nat) : nI a &&& nI b = nI (a &&& b) := by
  apply Int32.toBitVec_inj.1
  show BitVec.ofNat 32 a &&& BitVec.ofNat 32 b = BitVec.ofNat 32 (a &&& b)
  apply BitVec.eq_of_getLsbD_eq
  intro i hi
  simp [hi]
theorem md_xor (a b : Nat) : nI a ^^^ nI b = nI (a ^^^ b) := by
  apply Int32.toBitVec_inj.1
  show BitVec.ofNat 32 a ^^^ BitVec.ofNat 32 b = BitVec.ofNat 32 (a ^^^ b)
  apply BitVec.eq_of_getLsbD_eq
  intro i hi
  simp [hi]
theorem md_sh1 : ∀ e, e < 31 → (1 : Int32) <<< (nI e &&& 31) = nI (2 ^ e) := by decide +kernel
theorem md_sl : ∀ l, l < 32 → (((nI l).toUInt32 &&& Int32.toUInt32 31).toBitVec % 32).toNat = l := by decide +kernel
theorem md_m1 : (-1 : Int32) = nI 4294967295 := by decide +kernel
/-- bit e of m -/
def md_b (m e : Nat) : Nat := m / 2 ^ e % 2
/-- m with e, m without e -/
def md_s (m e : Nat) : Nat := m ||| 2 ^ e
def md_dl (m e : Nat) : Nat := m &&& (2 ^ e ^^^ 4294967295)
theorem md_b_lt (m e : Nat) : md_b m e < 2 := Nat.mod_lt _ (by decide)
theorem md_bit {m e : Nat} (hm : m < 2 ^ 31) (he : e < 32) : (((nI m).toUInt32 >>> ((nI e).toUInt32 &&& Int32.toUInt32 31)).toInt32 &&& 1) = nI (md_b m e) := by
  rw [pk_ushrN (by omega) _ e (md_sl e he)]
  exact pk_andN (Nat.lt_of_le_of_lt (Nat.div_le_self _ _) (by omega)) 1 (by decide)
theorem md_br {m e : Nat} {A B : Prop} (hm : m < 2 ^ 31) (he : e < 32) (f : md_b m e = 0 → A) (g : ¬ md_b m e = 0 → B) : ((((nI m).toUInt32 >>> ((nI e).toUInt32 &&& Int32.toUInt32 31)).toInt32 &&& 1) = 0 → A) ∧ (¬ (((nI m).toUInt32 >>> ((nI e).toUInt32 &&& Int32.toUInt32 31)).toInt32 &&& 1) = 0 → B) := by
  have h2 := md_b_lt m e
  exact pk_eq (md_b m e) 0 f g (hx := md_bit hm he)
theorem md_st (m : Nat) {e : Nat} (he : e < 31) : nI m ||| ((1 : Int32) <<< (nI e &&& 31)) = nI (md_s m e) := by
  rw [md_sh1 e he, md_or]
  rfl
theorem md_rm (m : Nat) {e : Nat} (he : e < 31) : nI m &&& (((1 : Int32) <<< (nI e &&& 31)) ^^^ (-1)) = nI (md_dl m e) := by
  rw [md_sh1 e he, md_m1, md_xor, md_and]
  rfl
theorem md_s_lt {m e : Nat} (hm : m < 256) (he : e < 8) : md_s m e < 256 :=
  Nat.or_lt_two_pow (n := 8) hm (Nat.pow_lt_pow_right (by decide) he)
theorem md_dl_lt {m e : Nat} (hm : m < 256) : md_dl m e < 256 := Nat.lt_of_le_of_lt Nat.and_le_left hm
/-- a picture with one place changed -/
def md_pu (p : Nat → Nat) (k v : Nat) : Nat → Nat := fun j => if j = k then v else p j
/-- an array of n places and its picture, each value below b -/
def md_M (n b : Nat) (p : Nat → Nat) (a : Nat → Int32) : Prop := ∀ j, j < n → p j < b ∧ a j = nI (p j)
theorem md_Mu {n b : Nat} {p : Nat → Nat} {a : Nat → Int32} {k v : Nat} (h : md_M n b p a) (hv : v < b) : md_M n b (md_pu p k v) (upd a k (nI v)) := by
  intro j hj
  unfold md_pu upd
  split
  · exact ⟨hv, rfl⟩
  · exact h j hj
/-! the tables: vectors, ranks, independent sets of the four desks -/
def md_V (f j : Nat) : Nat := (if f = 0 then 832267620417 else if f = 1 then 110713114689 else if f = 2 then 145072853057 else 7633899585) / 32 ^ j % 32
def md_T (f m : Nat) : Nat := (if f = 0 then 1108562369203241251862130329806329706217376791748110400812748441281357940518051579399449609856336070392731104660568694733393507413998268072018626207752066695974937461589779442278633110477073522166571377335430485879708161826062144584 else if f = 1 then 1108562355983628480583434481233643647296471956699047650148128283777809551960597589706233347914002305315059101251630968817287462383188799569004735751592568926803187722666701104615448352513824413561537731932863126467117400678396925000 else if f = 2 then 1108562355983628480583434481233643647296471956699047650148128292401903888342777374932444841468679168757207674204260191111825451337098137196695021550519275503100752857116627484772446470618485081144473861338914044885893592806263952456 else 1108562355983628480583434481233643562033576612510873892538637245412762360698218849303360905772754542533320234944935341583135336909161574909039474877272356825716446684185586030515096095844950761774746393747758631091895129039415350344) / 8 ^ m % 8
def md_I (f m : Nat) : Nat := (if f = 0 then 12416430449952542338005898872686615631424400588693828744700531498782031871 else if f = 1 then 740076967161234378779925627711971415425910246007730937734881083391 else if f = 2 then 740076967333546974801416151784558349549919064366162436175444312063 else 9341084619427249983559877691145453567) / 2 ^ m % 2
theorem md_V_lt (f j : Nat) : md_V f j < 32 := Nat.mod_lt _ (by decide)
theorem md_T_lt (f m : Nat) : md_T f m < 8 := Nat.mod_lt _ (by decide)
theorem md_I_lt (f m : Nat) : md_I f m < 2 := Nat.mod_lt _ (by decide)
/-- elimination: rows p, places below n are still to be looked at -/
def md_el (k : Nat → (Nat → Nat) → Nat) (p : Nat → Nat) : Nat → Nat → Nat
  | 0, _ => k 0 p
  | n + 1, v => if md_b v n = 0 then md_el k p n v else if p n = 0 then k 1 (md_pu p n v) else md_el k p n (v ^^^ p n)
def md_rk (V : Nat → Nat) (m : Nat) : Nat → Nat → (Nat → Nat) → Nat → Nat
  | 0, _, _, r => r
  | n + 1, e, p, r => if md_b m e = 0 then md_rk V m n (e + 1) p r else md_el (fun d p' => md_rk V m n (e + 1) p' (r + d)) p 5 (V e)
def md_sz (m : Nat) : Nat → Nat → Nat → Nat
  | 0, _, r => r
  | n + 1, e, r => md_sz m n (e + 1) (r + md_b m e)
theorem md_tabT : ∀ f, f < 4 → ∀ m, m < 256 → md_rk (md_V f) m 8 0 (fun _ => 0) 0 = md_T f m := by decide +kernel
theorem md_tabI : ∀ f, f < 4 → ∀ m, m < 256 → md_sz m 8 0 0 < 9 ∧ md_I f m = if md_T f m = md_sz m 8 0 0 then 1 else 0 := by decide +kernel
section
variable {q : Int32} {a1 a2 a3 a4 a5 a6 a7 a8 a9 a10 a11 : Nat → Int32}
theorem md_el4 {post : Int32 → St2 → Prop} {k : Nat → (Nat → Nat) → Nat} {X : Nat} {p : Nat → Nat} (hp : md_M 5 32 p a4)
    (H : ∀ d p' a4', md_M 5 32 p' a4' → d < 2 → k d p' = X → post (nI d) (q, a1, a2, a3, a4', a5, a6, a7, a8, a9, a10, a11)) :
    ∀ n v, n ≤ 5 → v < 32 → md_el k p n v = X → wX_eliminate_4 post q a1 a2 a3 a4 a5 a6 a7 a8 a9 a10 a11 (n + 1) (nI v) (nI n + (-1)) := by
  intro n
  induction n with
  | zero =>
    intro v _ _ h
    exact br_t (by decide) (H 0 p a4 hp (by decide) h)
  | succ n ih =>
    intro v hn hv h
    rw [md_el] at h
    rw [pk_m1]
    refine br_f (nI_pos (by omega)) ?_
    refine md_br (by omega) (by omega) (fun z => ?_) (fun z => ?_)
    · rw [if_pos z] at h
      exact nm_e (ih v (by omega) hv h)
    · rw [if_neg z] at h
      have hpn := hp n (by omega)
      refine ⟨pk_in n 5 (by omega), ?_⟩
      rw [nI_clamp (by omega)]
      refine pk_eq (p n) 0 (fun z2 => ⟨pk_in n 5 (by omega), nm_e ?_⟩) (fun z2 => ⟨pk_in n 5 (by omega), ?_⟩) (hx := hpn.2)
      · rw [if_pos z2] at h
        exact H 1 _ _ (md_Mu hp hv) (by decide) h
      · rw [if_neg z2] at h
        refine nm_r (e' := nI (v ^^^ p n)) (by rw [hpn.2, md_xor]) (nm_e ?_)
        exact ih (v ^^^ p n) (by omega) (Nat.xor_lt_two_pow (n := 5) hv hpn.1) h
theorem md_eliminate {post : Int32 → St2 → Prop} {k : Nat → (Nat → Nat) → Nat} {X : Nat} {p : Nat → Nat} {v : Nat} (hp : md_M 5 32 p a4) (hv : v < 32) (h : md_el k p 5 v = X)
    (H : ∀ d p' a4', md_M 5 32 p' a4' → d < 2 → k d p' = X → post (nI d) (q, a1, a2, a3, a4', a5, a6, a7, a8, a9, a10, a11)) : wpX_eliminate post (q, a1, a2, a3, a4, a5, a6, a7, a8, a9, a10, a11) (nI v) := by
  have t := md_el4 (q := q) (a1 := a1) (a2 := a2) (a3 := a3) (a5 := a5) (a6 := a6) (a7 := a7) (a8 := a8) (a9 := a9) (a10 := a10) (a11 := a11) hp H 5 v (by decide) hv h
  rw [pk_m1] at t
  unfold wpX_eliminate
  exact ⟨6, t⟩
theorem md_rank24 {post : Int32 → St2 → Prop} {V : Nat → Nat} {m X : Nat} (hm : m < 256) (hV : md_M 8 32 V a1) (H : ∀ a4', post (nI X) (q, a1, a2, a3, a4', a5, a6, a7, a8, a9, a10, a11)) :
    ∀ n e p r a4, e + n = 8 → md_M 5 32 p a4 → md_rk V m n e p r = X → wX_rank_24 post (nI m) (n + 1) (nI r) (nI e) q a1 a2 a3 a4 a5 a6 a7 a8 a9 a10 a11 := by
  intro n
  induction n with
  | zero =>
    intro e p r a4 he hp h
    refine pk_le 8 e (fun _ => ?_) (fun z => absurd z (by omega))
    have t := H a4
    rw [← h] at t
    exact t
  | succ n ih =>
    intro e p r a4 he hp h
    rw [md_rk] at h
    refine pk_le 8 e (fun z => absurd z (by omega)) (fun _ => ?_)
    refine md_br (by omega) (by omega) (fun z => ?_) (fun z => ?_)
    · rw [if_pos z] at h
      exact nm_r (nI_1 e) (ih (e + 1) p r a4 (by omega) hp h)
    · rw [if_neg z] at h
      have hv := hV e (by omega)
      refine ⟨pk_in e 8 (by omega), ?_⟩
      rw [nI_clamp (by omega), hv.2]
      refine md_eliminate hp hv.1 h (fun d p' a4' hp' hd hk => ?_)
      refine pk_eq d 0 (fun z => ?_) (fun z => ?_)
      · subst z
        exact nm_r (Int32.add_zero _) (nm_r (nI_1 e) (ih (e + 1) p' r a4' (by omega) hp' hk))
      · obtain rfl : d = 1 := by omega
        exact nm_r (nI_1 r) (nm_r (nI_1 e) (ih (e + 1) p' (r + 1) a4' (by omega) hp' hk))
theorem md_rank2 {post : Int32 → St2 → Prop} {x : Int32} (H : ∀ a4', (∀ j, j < 5 → a4' j = 0) → ∃ fu, wX_rank_24 post x fu 0 0 q a1 a2 a3 a4' a5 a6 a7 a8 a9 a10 a11) :
    ∀ n i a4, i + n = 5 → (∀ j, j < i → a4 j = 0) → wX_rank_2 post x q (n + 1) (nI i) a1 a2 a3 a4 a5 a6 a7 a8 a9 a10 a11 := by
  intro n
  induction n with
  | zero =>
    intro i a4 hi h
    exact pk_le 5 i (fun _ => H a4 (fun j hj => h j (by omega))) (fun z => absurd z (by omega))
  | succ n ih =>
    intro i a4 hi h
    refine pk_le 5 i (fun z => absurd z (by omega)) (fun _ => ⟨pk_in i 5 (by omega), ?_⟩)
    rw [nI_clamp (by omega)]
    refine nm_e (nm_r (nI_1 i) (ih (i + 1) _ (by omega) ?_))
    intro j hj
    unfold upd
    split
    · rfl
    · exact h j (by omega)
/-- rank: only the rows of the elimination change -/
theorem md_rank {post : Int32 → St2 → Prop} {f m : Nat} (hf : f < 4) (hm : m < 256) (h1 : md_M 8 32 (md_V f) a1) (H : ∀ a4', post (nI (md_T f m)) (q, a1, a2, a3, a4', a5, a6, a7, a8, a9, a10, a11)) : wpX_rank post (q, a1, a2, a3, a4, a5, a6, a7, a8, a9, a10, a11) (nI m) := by
  unfold wpX_rank
  exact ⟨6, md_rank2 (fun a4' h4 => ⟨9, md_rank24 hm h1 H 8 0 (fun _ => 0) 0 a4' rfl (fun j hj => ⟨(by decide : 0 < 32), h4 j hj⟩) (md_tabT f hf m hm)⟩) 5 0 a4 rfl (fun j hj => absurd hj (by omega))⟩
theorem md_size4 {post : Int32 → Prop} {m X : Nat} (hm : m < 256) (H : post (nI X)) : ∀ n e r, e + n = 8 → md_sz m n e r = X → wX_size_4 post (nI m) (n + 1) (nI r) (nI e) := by
  intro n
  induction n with
  | zero =>
    intro e r he h
    refine pk_le 8 e (fun _ => ?_) (fun z => absurd z (by omega))
    rw [← h] at H
    exact H
  | succ n ih =>
    intro e r he h
    refine pk_le 8 e (fun z => absurd z (by omega)) (fun _ => ?_)
    rw [md_bit (by omega) (by omega)]
    exact nm_r (nI_add _ _) (nm_r (nI_1 e) (ih (e + 1) _ (by omega) h))
theorem md_size {post : Int32 → Prop} {m : Nat} (hm : m < 256) (H : post (nI (md_sz m 8 0 0))) : wpX_size post () (nI m) := ⟨9, md_size4 hm H 8 0 0 rfl rfl⟩
theorem md_indep {post : Int32 → St2 → Prop} {f m : Nat} (hf : f < 4) (hm : m < 256) (h1 : md_M 8 32 (md_V f) a1) (H : ∀ a4', post (nI (md_I f m)) (q, a1, a2, a3, a4', a5, a6, a7, a8, a9, a10, a11)) : wpX_isIndependent post (q, a1, a2, a3, a4, a5, a6, a7, a8, a9, a10, a11) (nI m) := by
  unfold wpX_isIndependent
  refine md_rank hf hm h1 (fun a4' => ?_)
  refine md_size hm ?_
  obtain ⟨t1, t2⟩ := md_tabI f hf m hm
  have t3 := md_T_lt f m
  have h := H a4'
  refine pk_eq (md_T f m) (md_sz m 8 0 0) (fun z => ?_) (fun z => ?_)
  · rw [t2, if_pos z] at h
    exact h
  · rw [t2, if_neg z] at h
    exact h
end
end
section

def md_lp (f e m : Nat) : Nat := if md_T f (md_s m e) = md_T f m then 1 else 0
def md_bh (e : Nat) : Nat := 255 &&& ((2 ^ (e + 1) - 1) ^^^ 4294967295)
def md_bg (f e m : Nat) : Nat := if md_T f (md_s (m ||| md_bh e) e) ≤ md_T f (m ||| md_bh e) then 0 else 1
/-- leaves and nodes of the tree of parts below (e, m), with d = 8 - e -/
def md_lv (f : Nat) : Nat → Nat → Nat → Nat
  | 0, _, _ => 1
  | d + 1, e, m => if md_lp f e m = 0 then (if md_bg f e m = 0 then md_lv f d (e + 1) (md_s m e) + md_lv f d (e + 1) m else md_lv f d (e + 1) (md_s m e)) else md_lv f d (e + 1) m
def md_nd (f : Nat) : Nat → Nat → Nat → Nat
  | 0, _, _ => 1
  | d + 1, e, m => (if md_lp f e m = 0 then (if md_bg f e m = 0 then md_nd f d (e + 1) (md_s m e) + md_nd f d (e + 1) m else md_nd f d (e + 1) (md_s m e)) else md_nd f d (e + 1) m) + 1
def md_bs (f : Nat) : Nat := if f = 0 then 24 else if f = 1 then 12 else if f = 2 then 13 else 8
theorem md_tree : ∀ f, f < 4 → md_lv f 8 0 0 = md_bs f ∧ md_nd f 8 0 0 ≤ 600 := by decide +kernel
theorem md_bhx : ∀ e, e < 8 → md_bh e < 256 ∧ (255 : Int32) &&& ((((1 : Int32) <<< ((nI e + 1) &&& 31)) - 1) ^^^ (-1)) = nI (md_bh e) := by decide +kernel
section
variable {q : Int32} {a1 a2 a3 a4 a5 a6 a7 a8 a9 a10 a11 : Nat → Int32}
theorem md_isLoop {post : Int32 → St2 → Prop} {f e m : Nat} (hf : f < 4) (hm : m < 256) (he : e < 8) (h1 : md_M 8 32 (md_V f) a1) (H : ∀ a4', post (nI (md_lp f e m)) (q, a1, a2, a3, a4', a5, a6, a7, a8, a9, a10, a11)) : wpX_isLoop post (q, a1, a2, a3, a4, a5, a6, a7, a8, a9, a10, a11) (nI e) (nI m) := by
  unfold wpX_isLoop
  refine md_rank hf hm h1 (fun a4' => ?_)
  dsimp only
  rw [md_st m (by omega)]
  refine md_rank hf (md_s_lt hm he) h1 (fun a4'' => ?_)
  have h := H a4''
  have t1 := md_T_lt f m
  have t2 := md_T_lt f (md_s m e)
  unfold md_lp at h
  refine pk_eq (md_T f (md_s m e)) (md_T f m) (fun z => ?_) (fun z => ?_)
  · rw [if_pos z] at h
    exact h
  · rw [if_neg z] at h
    exact h
theorem md_isBridge {post : Int32 → St2 → Prop} {f e m : Nat} (hf : f < 4) (hm : m < 256) (he : e < 8) (h1 : md_M 8 32 (md_V f) a1) (H : ∀ a4', post (nI (md_bg f e m)) (q, a1, a2, a3, a4', a5, a6, a7, a8, a9, a10, a11)) : wpX_isBridge post (q, a1, a2, a3, a4, a5, a6, a7, a8, a9, a10, a11) (nI e) (nI m) := by
  unfold wpX_isBridge
  obtain ⟨b1, b2⟩ := md_bhx e he
  have b3 : m ||| md_bh e < 256 := Nat.or_lt_two_pow (n := 8) hm b1
  refine nm_r b2 ?_
  rw [md_or]
  refine md_rank hf b3 h1 (fun a4' => ?_)
  dsimp only
  rw [md_st _ (by omega)]
  refine md_rank hf (md_s_lt b3 he) h1 (fun a4'' => ?_)
  have h := H a4''
  have t1 := md_T_lt f (m ||| md_bh e)
  have t2 := md_T_lt f (md_s (m ||| md_bh e) e)
  unfold md_bg at h
  refine pk_le (md_T f (md_s (m ||| md_bh e) e)) (md_T f (m ||| md_bh e)) (fun z => ?_) (fun z => ?_)
  · rw [if_pos z] at h
    exact h
  · rw [if_neg (by omega)] at h
    exact h
theorem md_push {post : Int32 → St2 → Prop} {p : Nat} {x y z : Int32} (hp : p < 12) (H : post (nI (p + 1)) (q, a1, a2, a3, a4, a5, a6, a7, a8, upd a9 p x, upd a10 p y, upd a11 p z)) : wpX_pushPart post (q, a1, a2, a3, a4, a5, a6, a7, a8, a9, a10, a11) (nI p) x y z := by
  unfold wpX_pushPart
  dsimp only
  rw [nI_clamp (by omega), nI_1]
  exact ⟨pk_in p 12 hp, nm_e ⟨pk_in p 12 hp, nm_e ⟨pk_in p 12 hp, nm_e H⟩⟩⟩
theorem md_poly {post : Int32 → St2 → Prop} {f : Nat} (hf : f < 4) (h1 : md_M 8 32 (md_V f) a1) :
    ∀ d e m p n t i a4 a9 a10 a11, e + d = 8 → m < 256 → p + d ≤ 10 → a9 p = nI e → a10 p = nI m → a11 p = 1 → i + md_nd f d e m ≤ 600 →
      (∀ a4' a9' a10' a11', (∀ j, j < p → a9' j = a9 j ∧ a10' j = a10 j ∧ a11' j = a11 j) → wX_polynomial_29 post 1 1 n (nI p) (nI (t + md_lv f d e m)) (nI (i + md_nd f d e m)) q a1 a2 a3 a4' a5 a6 a7 a8 a9' a10' a11') →
      wX_polynomial_29 post 1 1 (n + md_nd f d e m) (nI (p + 1)) (nI t) (nI i) q a1 a2 a3 a4 a5 a6 a7 a8 a9 a10 a11 := by
  intro d
  induction d with
  | zero =>
    intro e m p n t i a4 a9 a10 a11 he hm hp h9 h10 h11 hi H
    rw [md_nd] at hi H ⊢
    rw [md_lv] at H
    refine pk_le 600 i (fun z => absurd z (by omega)) (fun _ => ?_)
    refine pk_le (p + 1) 0 (fun z => absurd z (by omega)) (fun _ => ?_)
    refine nm_r (pk_m1 p) ⟨pk_in p 12 (by omega), ?_⟩
    rw [nI_clamp (by omega), h9, h10, h11]
    refine nm_e ⟨pk_in p 12 (by omega), nm_e ⟨pk_in p 12 (by omega), nm_e ?_⟩⟩
    refine pk_eq e 8 (fun _ => ?_) (fun z => absurd (by omega) z)
    exact nm_r (nI_1 t) (nm_r (nI_1 i) (H a4 a9 a10 a11 (fun j _ => ⟨rfl, rfl, rfl⟩)))
  | succ d ih =>
    intro e m p n t i a4 a9 a10 a11 he hm hp h9 h10 h11 hi H
    rw [md_nd] at hi H ⊢
    rw [← Nat.add_assoc n _ 1]
    rw [md_lv] at H
    have hs := md_s_lt hm (show e < 8 by omega)
    refine pk_le 600 i (fun z => absurd z (by omega)) (fun _ => ?_)
    refine pk_le (p + 1) 0 (fun z => absurd z (by omega)) (fun _ => ?_)
    refine nm_r (pk_m1 p) ⟨pk_in p 12 (by omega), ?_⟩
    rw [nI_clamp (by omega), h9, h10, h11]
    refine nm_e ⟨pk_in p 12 (by omega), nm_e ⟨pk_in p 12 (by omega), nm_e ?_⟩⟩
    refine pk_eq e 8 (fun z => absurd z (by omega)) (fun _ => ?_)
    rw [md_st m (by omega), nI_1, nI_1]
    refine md_isLoop hf hm (by omega) h1 (fun a4' => ?_)
    have l2 : md_lp f e m < 2 := by unfold md_lp; split <;> decide
    have b2 : md_bg f e m < 2 := by unfold md_bg; split <;> decide
    refine pk_eq (md_lp f e m) 0 (fun z => ?_) (fun z => ?_)
    · rw [if_pos z] at hi ⊢
      rw [if_pos z, if_pos z] at H
      refine md_isBridge hf hm (by omega) h1 (fun a4'' => ?_)
      refine pk_eq (md_bg f e m) 0 (fun y => ?_) (fun y => ?_)
      · rw [if_pos y] at hi ⊢
        rw [if_pos y, if_pos y] at H
        refine md_push (by omega) (md_push (by omega) (nm_e ?_))
        rw [show n + (md_nd f d (e + 1) (md_s m e) + md_nd f d (e + 1) m) = (n + md_nd f d (e + 1) m) + md_nd f d (e + 1) (md_s m e) by omega]
        refine ih (e + 1) (md_s m e) (p + 1) (n + md_nd f d (e + 1) m) t (i + 1) a4'' _ _ _ (by omega) hs (by omega) pk_us pk_us pk_us (by omega) (fun b4 b9 b10 b11 hb => ?_)
        obtain ⟨c9, c10, c11⟩ := hb p (by omega)
        rw [pk_un (by omega), pk_us] at c9 c10 c11
        refine ih (e + 1) m p n _ _ b4 b9 b10 b11 (by omega) hm (by omega) c9 c10 c11 (by omega) (fun g4 g9 g10 g11 hg => ?_)
        have h := H g4 g9 g10 g11 (fun j hj => by
          obtain ⟨d9, d10, d11⟩ := hg j hj
          obtain ⟨e9, e10, e11⟩ := hb j (by omega)
          rw [pk_un (by omega), pk_un (by omega)] at e9 e10 e11
          exact ⟨d9.trans e9, d10.trans e10, d11.trans e11⟩)
        rw [show t + (md_lv f d (e + 1) (md_s m e) + md_lv f d (e + 1) m) = t + md_lv f d (e + 1) (md_s m e) + md_lv f d (e + 1) m by omega, show i + (md_nd f d (e + 1) (md_s m e) + md_nd f d (e + 1) m + 1) = i + 1 + md_nd f d (e + 1) (md_s m e) + md_nd f d (e + 1) m by omega] at h
        exact h
      · rw [if_neg y] at hi ⊢
        rw [if_neg y, if_neg y] at H
        refine md_push (by omega) (nm_e ?_)
        refine ih (e + 1) (md_s m e) p n t (i + 1) a4'' _ _ _ (by omega) hs (by omega) pk_us pk_us (by rw [pk_us]; decide) (by omega) (fun b4 b9 b10 b11 hb => ?_)
        have h := H b4 b9 b10 b11 (fun j hj => by
          obtain ⟨e9, e10, e11⟩ := hb j (by omega)
          rw [pk_un (by omega)] at e9 e10 e11
          exact ⟨e9, e10, e11⟩)
        rw [show i + (md_nd f d (e + 1) (md_s m e) + 1) = i + 1 + md_nd f d (e + 1) (md_s m e) by omega] at h
        exact h
    · rw [if_neg z] at hi ⊢
      rw [if_neg z, if_neg z] at H
      refine md_push (by omega) (nm_e ?_)
      refine ih (e + 1) m p n t (i + 1) a4' _ _ _ (by omega) hm (by omega) pk_us pk_us (by rw [pk_us]; decide) (by omega) (fun b4 b9 b10 b11 hb => ?_)
      have h := H b4 b9 b10 b11 (fun j hj => by
        obtain ⟨e9, e10, e11⟩ := hb j (by omega)
        rw [pk_un (by omega)] at e9 e10 e11
        exact ⟨e9, e10, e11⟩)
      rw [show i + (md_nd f d (e + 1) m + 1) = i + 1 + md_nd f d (e + 1) m by omega] at h
      exact h
theorem md_polynomial {post : Int32 → St2 → Prop} {f : Nat} (hf : f < 4) (h1 : md_M 8 32 (md_V f) a1) (H : ∀ a4' a9' a10' a11', post (nI (md_bs f)) (q, a1, a2, a3, a4', a5, a6, a7, a8, a9', a10', a11')) : wpX_polynomial post (q, a1, a2, a3, a4, a5, a6, a7, a8, a9, a10, a11) 1 1 := by
  obtain ⟨t1, t2⟩ := md_tree f hf
  unfold wpX_polynomial
  refine nm_e (nm_e (nm_e ⟨1 + md_nd f 8 0 0, ?_⟩))
  refine md_poly hf h1 8 0 0 0 1 0 0 a4 _ _ _ rfl (by decide) (by decide) pk_us pk_us pk_us (by omega) (fun b4 b9 b10 b11 hb => ?_)
  rw [t1, Nat.zero_add]
  refine pk_le 600 (0 + md_nd f 8 0 0) (fun z => H b4 b9 b10 b11) (fun _ => ?_)
  exact pk_le 0 0 (fun _ => H b4 b9 b10 b11) (fun z => absurd z (by decide))
theorem md_bases {post : Int32 → St2 → Prop} {f : Nat} (hf : f < 4) (h1 : md_M 8 32 (md_V f) a1) (H : ∀ a4' a9' a10' a11', post (nI (md_bs f)) (q, a1, a2, a3, a4', a5, a6, a7, a8, a9', a10', a11')) : wpX_bases post (q, a1, a2, a3, a4, a5, a6, a7, a8, a9, a10, a11) := by
  unfold wpX_bases
  exact md_polynomial hf h1 H
end
end
section

theorem md_or0 (x : Nat) : nI x ||| (0 : Int32) = nI x := by
  have h := md_or x 0
  rw [Nat.or_zero] at h
  exact h
/-- nothing -/
def md_Z : Nat → Nat := fun _ => 0
abbrev md_K : Type := Nat → (Nat → Nat) → (Nat → Nat) → (Nat → Nat) → Bool
/-- the search: from whom (0: from nobody), reached, the queue's q places -/
def md_F (F : Nat → Nat) (a : Nat → Int32) : Prop := ∀ j, j < 8 → F j < 9 ∧ a j = nI (F j) + (-1)
def md_S (q : Nat) (F R Q : Nat → Nat) (a6 a7 a8 : Nat → Int32) : Prop := q ≤ 8 ∧ md_F F a6 ∧ md_M 8 2 R a7 ∧ md_M q 8 Q a8
def md_mb (C : Nat → Nat) (k : Nat) : Nat → Nat → Nat → Nat
  | 0, _, x => x
  | n + 1, e, x => md_mb C k n (e + 1) (if C e = k then md_s x e else x)
def md_df (K : Nat → Nat) (m : Nat) : Nat → Nat → Nat → Nat
  | 0, _, _ => 1
  | n + 1, e, s => if md_b m e = 0 then md_df K m n (e + 1) s else if md_b s (K e) = 0 then md_df K m n (e + 1) (md_s s (K e)) else 0
def md_rc (q : Nat) (F R Q : Nat → Nat) (e g : Nat) (k : md_K) : Bool :=
  if R e = 0 then (if q < 8 then k (q + 1) (md_pu F e g) (md_pu R e 1) (md_pu Q q e) else false) else k q F R Q
theorem md_mb_lt {C : Nat → Nat} {k : Nat} : ∀ n e x, e + n = 8 → x < 256 → md_mb C k n e x < 256 := by
  intro n
  induction n with
  | zero =>
    intro e x _ hx
    exact hx
  | succ n ih =>
    intro e x he hx
    rw [md_mb]
    refine ih (e + 1) _ (by omega) ?_
    split
    · exact md_s_lt hx (by omega)
    · exact hx
theorem md_df_lt {K : Nat → Nat} {m : Nat} : ∀ n e s, md_df K m n e s < 2 := by
  intro n
  induction n with
  | zero =>
    intro e s
    exact (by decide : 1 < 2)
  | succ n ih =>
    intro e s
    rw [md_df]
    split
    · exact ih _ _
    · split
      · exact ih _ _
      · decide
section
variable {a1 a2 a3 a4 a5 a6 a7 a8 a9 a10 a11 : Nat → Int32}
theorem md_members4 {post : Int32 → Prop} {q : Int32} {C : Nat → Nat} {k X : Nat} (hk : k < 3) (hC : md_M 8 3 C a5) (H : post (nI X)) : ∀ n e x, e + n = 8 → md_mb C k n e x = X → wX_members_4 post (nI k) q a1 a2 a3 a4 a5 a6 a7 a8 a9 a10 a11 (n + 1) (nI x) (nI e) := by
  intro n
  induction n with
  | zero =>
    intro e x he h
    refine pk_le 8 e (fun _ => ?_) (fun z => absurd z (by omega))
    rw [← h] at H
    exact H
  | succ n ih =>
    intro e x he h
    have c := hC e (by omega)
    rw [md_mb] at h
    refine pk_le 8 e (fun z => absurd z (by omega)) (fun _ => ⟨pk_in e 8 (by omega), ?_⟩)
    rw [nI_clamp (by omega)]
    refine pk_eq (C e) k (fun z => ?_) (fun z => ?_) (hx := c.2)
    · rw [if_pos z] at h
      exact nm_r (md_st x (by omega)) (nm_r (nI_1 e) (ih (e + 1) _ (by omega) h))
    · rw [if_neg z] at h
      exact nm_r (md_or0 x) (nm_r (nI_1 e) (ih (e + 1) _ (by omega) h))
theorem md_members {post : Int32 → Prop} {q : Int32} {C : Nat → Nat} {k : Nat} (hk : k < 3) (hC : md_M 8 3 C a5) (H : post (nI (md_mb C k 8 0 0))) : wpX_members post (q, a1, a2, a3, a4, a5, a6, a7, a8, a9, a10, a11) (nI k) := by
  unfold wpX_members
  exact ⟨9, md_members4 hk hC H 8 0 0 rfl rfl⟩
theorem md_colours4 {post : Int32 → Prop} {q : Int32} {K : Nat → Nat} {m X : Nat} (hm : m < 256) (hK : md_M 8 8 K a2) (H : post (nI X)) : ∀ n e s, e + n = 8 → s < 256 → md_df K m n e s = X → wX_differentColours_4 post (nI m) q a1 a2 a3 a4 a5 a6 a7 a8 a9 a10 a11 (n + 1) (nI s) (nI e) := by
  intro n
  induction n with
  | zero =>
    intro e s he hs h
    refine pk_le 8 e (fun _ => ?_) (fun z => absurd z (by omega))
    rw [← h] at H
    exact H
  | succ n ih =>
    intro e s he hs h
    have c := hK e (by omega)
    rw [md_df] at h
    refine pk_le 8 e (fun z => absurd z (by omega)) (fun _ => ?_)
    refine md_br (by omega) (by omega) (fun z => ?_) (fun z => ⟨pk_in e 8 (by omega), ?_⟩)
    · rw [if_pos z] at h
      exact nm_r (nI_1 e) (ih (e + 1) s (by omega) hs h)
    · rw [if_neg z] at h
      rw [nI_clamp (by omega), c.2]
      refine md_br (by omega) (by omega) (fun y => ⟨pk_in e 8 (by omega), ?_⟩) (fun y => ?_)
      · rw [if_pos y] at h
        exact nm_r (md_st s (by omega)) (nm_r (nI_1 e) (ih (e + 1) _ (by omega) (md_s_lt hs c.1) h))
      · rw [if_neg y] at h
        rw [← h] at H
        exact H
theorem md_colours {post : Int32 → Prop} {q : Int32} {K : Nat → Nat} {m : Nat} (hm : m < 256) (hK : md_M 8 8 K a2) (H : post (nI (md_df K m 8 0 0))) : wpX_differentColours post (q, a1, a2, a3, a4, a5, a6, a7, a8, a9, a10, a11) (nI m) := by
  unfold wpX_differentColours
  exact ⟨9, md_colours4 hm hK H 8 0 0 rfl (by decide) rfl⟩
theorem md_clear2 {post : St2 → Prop} {q : Int32} (H : ∀ a5', (∀ j, j < 8 → a5' j = 0) → post (q, a1, a2, a3, a4, a5', a6, a7, a8, a9, a10, a11)) :
    ∀ n i a5, i + n = 8 → (∀ j, j < i → a5 j = 0) → wX_clearClasses_2 post q (n + 1) (nI i) a1 a2 a3 a4 a5 a6 a7 a8 a9 a10 a11 := by
  intro n
  induction n with
  | zero =>
    intro i a5 hi h
    exact pk_le 8 i (fun _ => H a5 (fun j hj => h j (by omega))) (fun z => absurd z (by omega))
  | succ n ih =>
    intro i a5 hi h
    refine pk_le 8 i (fun z => absurd z (by omega)) (fun _ => ⟨pk_in i 8 (by omega), ?_⟩)
    rw [nI_clamp (by omega)]
    refine nm_e (nm_r (nI_1 i) (ih (i + 1) _ (by omega) ?_))
    intro j hj
    unfold upd
    split
    · rfl
    · exact h j (by omega)
theorem md_clear {post : St2 → Prop} {q : Int32} (H : ∀ a5', md_M 8 3 md_Z a5' → post (q, a1, a2, a3, a4, a5', a6, a7, a8, a9, a10, a11)) : wpX_clearClasses post (q, a1, a2, a3, a4, a5, a6, a7, a8, a9, a10, a11) := by
  unfold wpX_clearClasses
  exact ⟨9, md_clear2 (fun a5' h => H a5' (fun j hj => ⟨(by decide : 0 < 3), h j hj⟩)) 8 0 a5 rfl (fun j hj => absurd hj (by omega))⟩
theorem md_start7 {post : St2 → Prop} (H : ∀ a6' a7', (∀ j, j < 8 → a6' j = -1 ∧ a7' j = 0) → post (nI 0, a1, a2, a3, a4, a5, a6', a7', a8, a9, a10, a11)) :
    ∀ n i a6 a7, i + n = 8 → (∀ j, j < i → a6 j = -1 ∧ a7 j = 0) → wX_startSearch_7 post 0 (n + 1) (nI i) a1 a2 a3 a4 a5 a6 a7 a8 a9 a10 a11 := by
  intro n
  induction n with
  | zero =>
    intro i a6 a7 hi h
    exact pk_le 8 i (fun _ => H a6 a7 (fun j hj => h j (by omega))) (fun z => absurd z (by omega))
  | succ n ih =>
    intro i a6 a7 hi h
    refine pk_le 8 i (fun z => absurd z (by omega)) (fun _ => ⟨pk_in i 8 (by omega), ?_⟩)
    rw [nI_clamp (by omega)]
    refine nm_e ⟨pk_in i 8 (by omega), nm_e (nm_r (nI_1 i) (ih (i + 1) _ _ (by omega) ?_))⟩
    intro j hj
    by_cases z : j = i
    · rw [z, pk_us, pk_us]
      exact ⟨rfl, rfl⟩
    · rw [pk_un z, pk_un z]
      exact h j (by omega)
theorem md_start {post : St2 → Prop} {q : Int32} (H : ∀ a6' a7', md_S 0 md_Z md_Z md_Z a6' a7' a8 → post (nI 0, a1, a2, a3, a4, a5, a6', a7', a8, a9, a10, a11)) : wpX_startSearch post (q, a1, a2, a3, a4, a5, a6, a7, a8, a9, a10, a11) := by
  unfold wpX_startSearch
  refine ⟨9, md_start7 (fun a6' a7' h => H a6' a7' ⟨by decide, ?_, ?_, ?_⟩) 8 0 a6 a7 rfl (fun j hj => absurd hj (by omega))⟩
  · intro j hj
    exact ⟨(by decide : 0 < 9), (h j hj).1.trans (by decide : (-1 : Int32) = nI 0 + (-1))⟩
  · intro j hj
    exact ⟨(by decide : 0 < 2), (h j hj).2⟩
  · intro j hj
    exact absurd hj (by omega)
theorem md_reach {post : St2 → Prop} {q e g : Nat} {F R Q : Nat → Nat} {k : md_K} {x : Int32} (hs : md_S q F R Q a6 a7 a8) (he : e < 8) (hg : g < 9) (hx : x = nI g + (-1)) (h : md_rc q F R Q e g k = true)
    (H : ∀ q' F' R' Q' a6' a7' a8', md_S q' F' R' Q' a6' a7' a8' → k q' F' R' Q' = true → post (nI q', a1, a2, a3, a4, a5, a6', a7', a8', a9, a10, a11)) : wpX_reach post (nI q, a1, a2, a3, a4, a5, a6, a7, a8, a9, a10, a11) (nI e) x := by
  obtain ⟨s0, s1, s2, s3⟩ := hs
  have r := s2 e he
  unfold md_rc at h
  unfold wpX_reach
  dsimp only
  rw [nI_clamp (show e < 2 ^ 31 by omega)]
  refine ⟨pk_in e 8 he, pk_eq (R e) 0 (fun z => ?_) (fun z => ?_) (hx := r.2)⟩
  · rw [if_pos z] at h
    by_cases hq : q < 8
    · rw [if_pos hq] at h
      rw [nI_clamp (show q < 2 ^ 31 by omega)]
      refine ⟨pk_in e 8 he, nm_e ⟨pk_in e 8 he, nm_e ⟨pk_in q 8 hq, nm_e (nm_r (nI_1 q) ?_)⟩⟩⟩
      refine H (q + 1) _ _ _ _ _ _ ⟨by omega, ?_, md_Mu s2 (by decide), ?_⟩ h
      · intro j hj
        by_cases y : j = e
        · rw [y, pk_us]
          simp only [md_pu, if_true]
          exact ⟨hg, hx⟩
        · rw [pk_un y]
          simp only [md_pu, if_neg y]
          exact s1 j hj
      · intro j hj
        by_cases y : j = q
        · rw [y, pk_us]
          simp only [md_pu, if_true]
          exact ⟨he, trivial⟩
        · rw [pk_un y]
          simp only [md_pu, if_neg y]
          exact s3 j (by omega)
    · rw [if_neg hq] at h
      exact absurd h (by decide)
  · rw [if_neg z] at h
    exact H q F R Q a6 a7 a8 ⟨s0, s1, s2, s3⟩ h
end
end
section

def md_r2 (f : Nat) (C : Nat → Nat) (m e o : Nat) (k : md_K) : md_K := fun q F R Q =>
  if C e = 1 ∧ C o = 0 ∧ md_I f (md_dl (md_s m o) e) = 1 then md_rc q F R Q o (e + 1) k else k q F R Q
def md_r1 (K C : Nat → Nat) (m e o : Nat) (k : md_K) : md_K := fun q F R Q =>
  if C e = 0 ∧ C o = 1 ∧ md_df K (md_dl (md_s m e) o) 8 0 0 = 1 then md_rc q F R Q o (e + 1) k else k q F R Q
def md_rx (f : Nat) (K C : Nat → Nat) (m e : Nat) (k : md_K) : Nat → Nat → md_K
  | 0, _ => k
  | n + 1, o => md_r1 K C m e o (md_r2 f C m e o (md_rx f K C m e k n (o + 1)))
def md_tu (F : Nat → Nat) (k : (Nat → Nat) → Bool) : Nat → Nat → (Nat → Nat) → Bool
  | 0, _, C => k C
  | n + 1, E, C => if E = 0 then k C else if C (E - 1) < 2 then md_tu F k n (F (E - 1)) (md_pu C (E - 1) (1 - C (E - 1))) else false
def md_g2 (f : Nat) (K C : Nat → Nat) (m : Nat) (k : Nat → (Nat → Nat) → Bool) : Nat → Nat → md_K
  | 0, _ => fun _ _ _ _ => k 0 C
  | n + 1, i => fun q F R Q => if q ≤ i then k 0 C else if C (Q i) = 0 ∧ md_df K (md_s m (Q i)) 8 0 0 = 1 then md_tu F (k 1) 8 (Q i + 1) C else md_rx f K C m (Q i) (md_g2 f K C m k n (i + 1)) 8 0 q F R Q
def md_g1 (f : Nat) (C : Nat → Nat) (m : Nat) (k : md_K) : Nat → Nat → md_K
  | 0, _ => k
  | n + 1, e => fun q F R Q => if C e = 0 ∧ md_I f (md_s m e) = 1 then md_rc q F R Q e 0 (md_g1 f C m k n (e + 1)) else md_g1 f C m k n (e + 1) q F R Q
def md_gr (f : Nat) (K C : Nat → Nat) (k : Nat → (Nat → Nat) → Bool) : Bool :=
  md_g1 f C (md_mb C 1 8 0 0) (md_g2 f K C (md_mb C 1 8 0 0) k 8 0) 8 0 0 md_Z md_Z md_Z
def md_rb (f : Nat) (K : Nat → Nat) (X : Nat) : Nat → Nat → (Nat → Nat) → Bool
  | 0, c, _ => decide (c = X)
  | n + 1, c, C => md_gr f K C (fun r C' => if r = 0 then decide (c = X) else md_rb f K X n (c + 1) C')
/-- the colours: as made, and as the law sets them -/
def md_k0 : Nat → Nat := fun j => j
def md_k1 (c : Nat) : Nat → Nat := fun j => if j < 5 then 0 else if j = 5 then c else 2
def md_rv (c : Nat) : Nat := if c = 0 then 2 else if c = 2 then 2 else 3
theorem md_rb0 : ∀ f, f < 4 → md_rb f md_k0 5 9 0 md_Z = true := by decide +kernel
theorem md_rb1 : ∀ f, f < 4 → ∀ c, c < 8 → md_rb f (md_k1 c) (md_rv c) 9 0 md_Z = true := by decide +kernel
section
variable {a1 a2 a3 a4 a5 a6 a7 a8 a9 a10 a11 : Nat → Int32}
theorem md_x51 {post : St2 → Prop} {J : Int32 → Int32 → (Nat → Int32) → (Nat → Int32) → (Nat → Int32) → (Nat → Int32) → (Nat → Int32) → (Nat → Int32) → (Nat → Int32) → (Nat → Int32) → (Nat → Int32) → (Nat → Int32) → (Nat → Int32) → Prop} {f m e o q : Nat} {C F R Q : Nat → Nat} {k : md_K}
    (hf : f < 4) (h1 : md_M 8 32 (md_V f) a1) (hC : md_M 8 3 C a5) (hm : m < 256) (he : e < 8) (ho : o < 8) (hs : md_S q F R Q a6 a7 a8) (h : md_r2 f C m e o k q F R Q = true)
    (H : ∀ q' F' R' Q' a4' a6' a7' a8', md_S q' F' R' Q' a6' a7' a8' → k q' F' R' Q' = true → J (nI (o + 1)) (nI q') a1 a2 a3 a4' a5 a6' a7' a8' a9 a10 a11) :
    wX_reachByExchange_51 post J (nI e) (nI m) (nI o) (nI q) a1 a2 a3 a4 a5 a6 a7 a8 a9 a10 a11 := by
  have ce := hC e he
  have co := hC o ho
  have i2 := md_I_lt f (md_dl (md_s m o) e)
  unfold md_r2 at h
  unfold wX_reachByExchange_51
  rw [nI_clamp (show e < 2 ^ 31 by omega), nI_clamp (show o < 2 ^ 31 by omega)]
  refine ⟨pk_in e 8 he, pk_eq (C e) 1 (fun z => ⟨pk_in o 8 ho, pk_eq (C o) 0 (fun y => ?_) (fun y => ?_) (hx := co.2)⟩) (fun z => ?_) (hx := ce.2)⟩
  · rw [md_st m (by omega), md_rm _ (by omega)]
    refine md_indep hf (md_dl_lt (md_s_lt hm ho)) h1 (fun a4' => ?_)
    refine pk_eq (md_I f (md_dl (md_s m o) e)) 0 (fun x => ?_) (fun x => ?_)
    · rw [if_neg (fun t => absurd t.2.2 (by omega))] at h
      exact nm_r (nI_1 o) (H q F R Q a4' a6 a7 a8 hs h)
    · rw [if_pos ⟨z, y, by omega⟩] at h
      exact md_reach hs ho (by omega) (pk_m1 e).symm h (fun q' F' R' Q' a6' a7' a8' hs' h' => nm_r (nI_1 o) (H q' F' R' Q' a4' a6' a7' a8' hs' h'))
  · rw [if_neg (fun t => y t.2.1)] at h
    exact nm_r (nI_1 o) (H q F R Q a4 a6 a7 a8 hs h)
  · rw [if_neg (fun t => z t.1)] at h
    exact nm_r (nI_1 o) (H q F R Q a4 a6 a7 a8 hs h)
theorem md_x2 {post : St2 → Prop} {f m e : Nat} {K C : Nat → Nat} {k : md_K} (hf : f < 4) (h1 : md_M 8 32 (md_V f) a1) (hK : md_M 8 8 K a2) (hC : md_M 8 3 C a5) (hm : m < 256) (he : e < 8)
    (H : ∀ q' F' R' Q' a4' a6' a7' a8', md_S q' F' R' Q' a6' a7' a8' → k q' F' R' Q' = true → post (nI q', a1, a2, a3, a4', a5, a6', a7', a8', a9, a10, a11)) :
    ∀ n o q F R Q a4 a6 a7 a8, o + n = 8 → md_S q F R Q a6 a7 a8 → md_rx f K C m e k n o q F R Q = true → wX_reachByExchange_2 post (nI e) (nI m) (n + 1) (nI o) (nI q) a1 a2 a3 a4 a5 a6 a7 a8 a9 a10 a11 := by
  intro n
  induction n with
  | zero =>
    intro o q F R Q a4 a6 a7 a8 ho hs h
    exact pk_le 8 o (fun _ => H q F R Q a4 a6 a7 a8 hs h) (fun z => absurd z (by omega))
  | succ n ih =>
    intro o q F R Q a4 a6 a7 a8 ho hs h
    have ce := hC e he
    have co := hC o (by omega)
    rw [md_rx] at h
    unfold md_r1 at h
    have d2 := md_df_lt (K := K) (m := md_dl (md_s m e) o) 8 0 0
    refine pk_le 8 o (fun z => absurd z (by omega)) (fun _ => ⟨pk_in e 8 he, ?_⟩)
    rw [nI_clamp (show e < 2 ^ 31 by omega), nI_clamp (show o < 2 ^ 31 by omega)]
    have go : ∀ q F R Q a6 a7 a8, md_S q F R Q a6 a7 a8 → md_r2 f C m e o (md_rx f K C m e k n (o + 1)) q F R Q = true → wX_reachByExchange_51 post (wX_reachByExchange_2 post (nI e) (nI m) (n + 1)) (nI e) (nI m) (nI o) (nI q) a1 a2 a3 a4 a5 a6 a7 a8 a9 a10 a11 :=
      fun q F R Q a6 a7 a8 hs h => md_x51 hf h1 hC hm he (by omega) hs h (fun q' F' R' Q' a4' a6' a7' a8' hs' h' => ih (o + 1) q' F' R' Q' a4' a6' a7' a8' (by omega) hs' h')
    refine pk_eq (C e) 0 (fun z => ⟨pk_in o 8 (by omega), pk_eq (C o) 1 (fun y => ?_) (fun y => ?_) (hx := co.2)⟩) (fun z => ?_) (hx := ce.2)
    · rw [md_st m (by omega), md_rm _ (by omega)]
      refine md_colours (md_dl_lt (md_s_lt hm he)) hK ?_
      refine pk_eq (md_df K (md_dl (md_s m e) o) 8 0 0) 0 (fun x => ?_) (fun x => ?_)
      · rw [if_neg (fun t => absurd t.2.2 (by omega))] at h
        exact go q F R Q a6 a7 a8 hs h
      · rw [if_pos ⟨z, y, by omega⟩] at h
        exact md_reach hs (by omega) (by omega) (pk_m1 e).symm h (fun q' F' R' Q' a6' a7' a8' hs' h' => go q' F' R' Q' a6' a7' a8' hs' h')
    · rw [if_neg (fun t => y t.2.1)] at h
      exact go q F R Q a6 a7 a8 hs h
    · rw [if_neg (fun t => z t.1)] at h
      exact go q F R Q a6 a7 a8 hs h
theorem md_exchange {post : St2 → Prop} {f m e q : Nat} {K C F R Q : Nat → Nat} {k : md_K} (hf : f < 4) (h1 : md_M 8 32 (md_V f) a1) (hK : md_M 8 8 K a2) (hC : md_M 8 3 C a5) (hm : m < 256) (he : e < 8)
    (hs : md_S q F R Q a6 a7 a8) (h : md_rx f K C m e k 8 0 q F R Q = true)
    (H : ∀ q' F' R' Q' a4' a6' a7' a8', md_S q' F' R' Q' a6' a7' a8' → k q' F' R' Q' = true → post (nI q', a1, a2, a3, a4', a5, a6', a7', a8', a9, a10, a11)) : wpX_reachByExchange post (nI q, a1, a2, a3, a4, a5, a6, a7, a8, a9, a10, a11) (nI e) (nI m) := by
  unfold wpX_reachByExchange
  exact ⟨9, md_x2 hf h1 hK hC hm he H 8 0 q F R Q a4 a6 a7 a8 rfl hs h⟩
theorem md_turn4 {post : St2 → Prop} {q : Int32} {F : Nat → Nat} {k : (Nat → Nat) → Bool} (hF : md_F F a6) (H : ∀ C' a5', md_M 8 3 C' a5' → k C' = true → post (q, a1, a2, a3, a4, a5', a6, a7, a8, a9, a10, a11)) :
    ∀ n s E C a5, s + n = 8 → E < 9 → md_M 8 3 C a5 → md_tu F k n E C = true → wX_turnRainbow_4 post q (n + 1) (nI E + (-1)) (nI s) a1 a2 a3 a4 a5 a6 a7 a8 a9 a10 a11 := by
  intro n
  induction n with
  | zero =>
    intro s E C a5 hs hE hC h
    exact pk_le 8 s (fun _ => H C a5 hC h) (fun z => absurd z (by omega))
  | succ n ih =>
    intro s E C a5 hs hE hC h
    rw [md_tu] at h
    refine pk_le 8 s (fun z => absurd z (by omega)) (fun _ => ?_)
    rcases Nat.eq_zero_or_pos E with z | z
    · rw [if_pos z] at h
      rw [z]
      exact br_t (by decide) (H C a5 hC h)
    · obtain ⟨e, rfl⟩ : ∃ e, E = e + 1 := ⟨E - 1, by omega⟩
      rw [if_neg (by omega), Nat.add_sub_cancel] at h
      have ce := hC e (by omega)
      have fe := hF e (by omega)
      by_cases y : C e < 2
      · rw [if_pos y] at h
        rw [pk_m1]
        refine br_f (nI_pos (by omega)) ⟨pk_in e 8 (by omega), pk_in e 8 (by omega), ?_⟩
        rw [nI_clamp (by omega)]
        refine nm_r (e' := upd a5 e (nI (1 - C e))) (by rw [ce.2]; exact congrArg (upd a5 e) (pk_sub (a := 1) (by omega))) ⟨pk_in e 8 (by omega), nm_r fe.2 (nm_r (nI_1 s) ?_)⟩
        exact ih (s + 1) (F e) _ _ (by omega) fe.1 (md_Mu hC (by omega)) h
      · rw [if_neg y] at h
        exact absurd h (by decide)
theorem md_turn {post : St2 → Prop} {q : Int32} {e : Nat} {C F : Nat → Nat} {k : (Nat → Nat) → Bool} (he : e < 8) (hF : md_F F a6) (hC : md_M 8 3 C a5) (h : md_tu F k 8 (e + 1) C = true) (H : ∀ C' a5', md_M 8 3 C' a5' → k C' = true → post (q, a1, a2, a3, a4, a5', a6, a7, a8, a9, a10, a11)) : wpX_turnRainbow post (q, a1, a2, a3, a4, a5, a6, a7, a8, a9, a10, a11) (nI e) := by
  have t := md_turn4 (q := q) (a1 := a1) (a2 := a2) (a3 := a3) (a4 := a4) (a7 := a7) (a8 := a8) (a9 := a9) (a10 := a10) (a11 := a11) hF H 8 0 (e + 1) C a5 rfl (by omega) hC h
  rw [pk_m1] at t
  unfold wpX_turnRainbow
  exact ⟨9, t⟩
theorem md_grow53 {post : Int32 → St2 → Prop} {f m : Nat} {K C : Nat → Nat} {k : Nat → (Nat → Nat) → Bool} (hf : f < 4) (h1 : md_M 8 32 (md_V f) a1) (hK : md_M 8 8 K a2) (hC : md_M 8 3 C a5) (hm : m < 256)
    (H : ∀ r C' q' a4' a5' a6' a7' a8', r < 2 → md_M 8 3 C' a5' → k r C' = true → post (nI r) (q', a1, a2, a3, a4', a5', a6', a7', a8', a9, a10, a11)) :
    ∀ n i q F R Q a4 a6 a7 a8, i + n = 8 → md_S q F R Q a6 a7 a8 → md_g2 f K C m k n i q F R Q = true → wX_growRainbow_53 post (nI m) (n + 1) (nI i) (nI q) a1 a2 a3 a4 a5 a6 a7 a8 a9 a10 a11 := by
  intro n
  induction n with
  | zero =>
    intro i q F R Q a4 a6 a7 a8 hi hs h
    have hq := hs.1
    refine pk_le q i (fun _ => H 0 C (nI q) a4 a5 a6 a7 a8 (by decide) hC h) (fun _ => ?_)
    exact pk_le 8 i (fun _ => H 0 C (nI q) a4 a5 a6 a7 a8 (by decide) hC h) (fun z => absurd z (by omega))
  | succ n ih =>
    intro i q F R Q a4 a6 a7 a8 hi hs h
    obtain ⟨hq, hF, hR, hQ⟩ := id hs
    rw [md_g2] at h
    dsimp only at h
    refine pk_le q i (fun z => ?_) (fun z => ?_)
    · rw [if_pos z] at h
      exact H 0 C (nI q) a4 a5 a6 a7 a8 (by decide) hC h
    · rw [if_neg (by omega)] at h
      have qi := hQ i z
      have cq := hC (Q i) qi.1
      have d2 := md_df_lt (K := K) (m := md_s m (Q i)) 8 0 0
      refine pk_le 8 i (fun z => absurd z (by omega)) (fun _ => ⟨pk_in i 8 (by omega), ?_⟩)
      rw [nI_clamp (show i < 2 ^ 31 by omega)]
      refine nm_r qi.2 ⟨pk_in (Q i) 8 qi.1, ?_⟩
      rw [nI_clamp (show Q i < 2 ^ 31 by omega)]
      have go : md_rx f K C m (Q i) (md_g2 f K C m k n (i + 1)) 8 0 q F R Q = true → wX_growRainbow_102 post (wX_growRainbow_53 post (nI m) (n + 1)) (nI m) (nI i) (nI (Q i)) (nI q) a1 a2 a3 a4 a5 a6 a7 a8 a9 a10 a11 := by
        intro h
        unfold wX_growRainbow_102
        exact md_exchange hf h1 hK hC hm qi.1 hs h (fun q' F' R' Q' a4' a6' a7' a8' hs' h' => nm_r (nI_1 i) (ih (i + 1) q' F' R' Q' a4' a6' a7' a8' (by omega) hs' h'))
      refine pk_eq (C (Q i)) 0 (fun y => ?_) (fun y => ?_) (hx := cq.2)
      · rw [md_st m (by omega)]
        refine md_colours (md_s_lt hm qi.1) hK ?_
        refine pk_eq (md_df K (md_s m (Q i)) 8 0 0) 0 (fun x => ?_) (fun x => ?_)
        · rw [if_neg (fun t => absurd t.2 (by omega))] at h
          exact go h
        · rw [if_pos ⟨y, by omega⟩] at h
          exact md_turn qi.1 hF hC h (fun C' a5' hC' h' => H 1 C' (nI q) a4 a5' a6 a7 a8 (by decide) hC' h')
      · rw [if_neg (fun t => y t.1)] at h
        exact go h
theorem md_grow12 {post : Int32 → St2 → Prop} {f m : Nat} {C : Nat → Nat} {k : md_K} (hf : f < 4) (h1 : md_M 8 32 (md_V f) a1) (hC : md_M 8 3 C a5) (hm : m < 256)
    (H : ∀ q' F' R' Q' a4' a6' a7' a8', md_S q' F' R' Q' a6' a7' a8' → k q' F' R' Q' = true → ∃ fu, wX_growRainbow_53 post (nI m) fu 0 (nI q') a1 a2 a3 a4' a5 a6' a7' a8' a9 a10 a11) :
    ∀ n e q F R Q a4 a6 a7 a8, e + n = 8 → md_S q F R Q a6 a7 a8 → md_g1 f C m k n e q F R Q = true → wX_growRainbow_12 post (nI m) (n + 1) (nI e) (nI q) a1 a2 a3 a4 a5 a6 a7 a8 a9 a10 a11 := by
  intro n
  induction n with
  | zero =>
    intro e q F R Q a4 a6 a7 a8 he hs h
    exact pk_le 8 e (fun _ => H q F R Q a4 a6 a7 a8 hs h) (fun z => absurd z (by omega))
  | succ n ih =>
    intro e q F R Q a4 a6 a7 a8 he hs h
    have ce := hC e (by omega)
    have i2 := md_I_lt f (md_s m e)
    rw [md_g1] at h
    dsimp only at h
    refine pk_le 8 e (fun z => absurd z (by omega)) (fun _ => ⟨pk_in e 8 (by omega), ?_⟩)
    rw [nI_clamp (show e < 2 ^ 31 by omega)]
    refine pk_eq (C e) 0 (fun y => ?_) (fun y => ?_) (hx := ce.2)
    · rw [md_st m (by omega)]
      refine md_indep hf (md_s_lt hm (by omega)) h1 (fun a4' => ?_)
      refine pk_eq (md_I f (md_s m e)) 0 (fun x => ?_) (fun x => ?_)
      · rw [if_neg (fun t => absurd t.2 (by omega))] at h
        exact nm_r (nI_1 e) (ih (e + 1) q F R Q a4' a6 a7 a8 (by omega) hs h)
      · rw [if_pos ⟨y, by omega⟩] at h
        exact md_reach hs (by omega) (by omega) (by decide) h (fun q' F' R' Q' a6' a7' a8' hs' h' => nm_r (nI_1 e) (ih (e + 1) q' F' R' Q' a4' a6' a7' a8' (by omega) hs' h'))
    · rw [if_neg (fun t => y t.1)] at h
      exact nm_r (nI_1 e) (ih (e + 1) q F R Q a4 a6 a7 a8 (by omega) hs h)
theorem md_grow {post : Int32 → St2 → Prop} {q : Int32} {f : Nat} {K C : Nat → Nat} {k : Nat → (Nat → Nat) → Bool} (hf : f < 4) (h1 : md_M 8 32 (md_V f) a1) (hK : md_M 8 8 K a2) (hC : md_M 8 3 C a5) (h : md_gr f K C k = true)
    (H : ∀ r C' q' a4' a5' a6' a7' a8', r < 2 → md_M 8 3 C' a5' → k r C' = true → post (nI r) (q', a1, a2, a3, a4', a5', a6', a7', a8', a9, a10, a11)) : wpX_growRainbow post (q, a1, a2, a3, a4, a5, a6, a7, a8, a9, a10, a11) := by
  unfold md_gr at h
  have hm := md_mb_lt (C := C) (k := 1) 8 0 0 rfl (by decide)
  unfold wpX_growRainbow
  refine md_members (k := 1) (by decide) hC ?_
  refine md_start (fun a6' a7' hs => ?_)
  exact ⟨9, md_grow12 hf h1 hC hm (fun q' F' R' Q' b4 b6 b7 b8 hs' h' => ⟨9, md_grow53 hf h1 hK hC hm H 8 0 q' F' R' Q' b4 b6 b7 b8 rfl hs' h'⟩) 8 0 0 md_Z md_Z md_Z a4 a6' a7' a8 rfl hs h⟩
theorem md_rain10 {post : Int32 → St2 → Prop} {f X : Nat} {K : Nat → Nat} (hf : f < 4) (h1 : md_M 8 32 (md_V f) a1) (hK : md_M 8 8 K a2) (H : ∀ q' a4' a5' a6' a7' a8', post (nI X) (q', a1, a2, a3, a4', a5', a6', a7', a8', a9, a10, a11)) :
    ∀ n c i C q a4 a5 a6 a7 a8, i + n = 9 → md_M 8 3 C a5 → md_rb f K X n c C = true → wX_rainbow_10 post (n + 1) (nI c) 1 (nI i) q a1 a2 a3 a4 a5 a6 a7 a8 a9 a10 a11 := by
  intro n
  induction n with
  | zero =>
    intro c i C q a4 a5 a6 a7 a8 hi hC h
    rw [md_rb] at h
    obtain rfl := of_decide_eq_true h
    exact pk_le 9 i (fun _ => H q a4 a5 a6 a7 a8) (fun z => absurd z (by omega))
  | succ n ih =>
    intro c i C q a4 a5 a6 a7 a8 hi hC h
    rw [md_rb] at h
    refine pk_le 9 i (fun z => absurd z (by omega)) (fun _ => br_f (by decide) ?_)
    refine md_grow hf h1 hK hC h (fun r C' q' a4' a5' a6' a7' a8' hr hC' h' => ?_)
    refine pk_eq r 0 (fun z => ?_) (fun z => ?_)
    · rw [if_pos z] at h'
      obtain rfl := of_decide_eq_true h'
      subst z
      refine nm_r (Int32.add_zero _) (nm_r (nI_1 i) ?_)
      refine pk_le 9 (i + 1) (fun _ => H q' a4' a5' a6' a7' a8') (fun _ => br_t rfl (H q' a4' a5' a6' a7' a8'))
    · rw [if_neg z] at h'
      obtain rfl : r = 1 := by omega
      exact nm_r (nI_1 c) (nm_r (nI_1 i) (ih (c + 1) (i + 1) C' q' a4' a5' a6' a7' a8' (by omega) hC' h'))
theorem md_rainbow {post : Int32 → St2 → Prop} {q : Int32} {f X : Nat} {K : Nat → Nat} (hf : f < 4) (h1 : md_M 8 32 (md_V f) a1) (hK : md_M 8 8 K a2) (h : md_rb f K X 9 0 md_Z = true) (H : ∀ q' a4' a5' a6' a7' a8', post (nI X) (q', a1, a2, a3, a4', a5', a6', a7', a8', a9, a10, a11)) : wpX_rainbow post (q, a1, a2, a3, a4, a5, a6, a7, a8, a9, a10, a11) := by
  unfold wpX_rainbow
  refine md_clear (fun a5' h5 => ?_)
  exact ⟨10, md_rain10 hf h1 hK H 9 0 0 md_Z q a4 a5' a6 a7 a8 rfl h5 h⟩
end
end
section

def md_pa (F : Nat → Nat) (k : (Nat → Nat) → Bool) : Nat → Nat → Nat → (Nat → Nat) → Bool
  | 0, _, _, C => k C
  | n + 1, E, c, C => if E = 0 then k C else md_pa F k n (F (E - 1)) (C (E - 1)) (md_pu C (E - 1) c)
def md_ri (f : Nat) (C : Nat → Nat) (e : Nat) (k : md_K) : Nat → Nat → md_K
  | 0, _ => k
  | n + 1, o => fun q F R Q => if ¬ C o = 0 ∧ ¬ C o = C e ∧ R o = 0 ∧ md_I f (md_dl (md_s (md_mb C (C o) 8 0 0) e) o) = 1 then md_rc q F R Q o (e + 1) (md_ri f C e k n (o + 1)) else md_ri f C e k n (o + 1) q F R Q
def md_p1 (f : Nat) (C : Nat → Nat) (k : Nat → (Nat → Nat) → Bool) : Nat → Nat → md_K
  | 0, _ => fun _ _ _ _ => k 0 C
  | n + 1, i => fun q F R Q => if q ≤ i then k 0 C else
      if ¬ C (Q i) = 1 ∧ md_I f (md_s (md_mb C 1 8 0 0) (Q i)) = 1 then md_pa F (k 1) 8 (Q i + 1) 1 C else
      if ¬ C (Q i) = 2 ∧ md_I f (md_s (md_mb C 2 8 0 0) (Q i)) = 1 then md_pa F (k 1) 8 (Q i + 1) 2 C else
      md_ri f C (Q i) (md_p1 f C k n (i + 1)) 8 0 q F R Q
def md_pl (f : Nat) (C : Nat → Nat) (e : Nat) (k : Nat → (Nat → Nat) → Bool) : Bool := md_rc 0 md_Z md_Z md_Z e 0 (md_p1 f C k 8 0)
def md_un (f X : Nat) : Nat → Nat → Nat → (Nat → Nat) → Bool
  | 0, _, c, _ => decide (c = X)
  | n + 1, e, c, C => md_pl f C e (fun r C' => md_un f X n (e + 1) (c + r) C')
def md_uv (f : Nat) : Nat := if f = 3 then 7 else 8
theorem md_un0 : ∀ f, f < 4 → md_un f (md_uv f) 8 0 0 md_Z = true := by decide +kernel
section
variable {a1 a2 a3 a4 a5 a6 a7 a8 a9 a10 a11 : Nat → Int32}
theorem md_push8 {post : St2 → Prop} {q : Int32} {F : Nat → Nat} {k : (Nat → Nat) → Bool} (hF : md_F F a6) (H : ∀ C' a5', md_M 8 3 C' a5' → k C' = true → post (q, a1, a2, a3, a4, a5', a6, a7, a8, a9, a10, a11)) :
    ∀ n s E c C a5, s + n = 8 → E < 9 → c < 3 → md_M 8 3 C a5 → md_pa F k n E c C = true → wX_pushAlong_8 post q (n + 1) (nI E + (-1)) (nI c) (nI s) a1 a2 a3 a4 a5 a6 a7 a8 a9 a10 a11 := by
  intro n
  induction n with
  | zero =>
    intro s E c C a5 hs hE hc hC h
    exact pk_le 8 s (fun _ => H C a5 hC h) (fun z => absurd z (by omega))
  | succ n ih =>
    intro s E c C a5 hs hE hc hC h
    rw [md_pa] at h
    refine pk_le 8 s (fun z => absurd z (by omega)) (fun _ => ?_)
    rcases Nat.eq_zero_or_pos E with z | z
    · rw [if_pos z] at h
      rw [z]
      exact br_t (by decide) (H C a5 hC h)
    · obtain ⟨e, rfl⟩ : ∃ e, E = e + 1 := ⟨E - 1, by omega⟩
      rw [if_neg (by omega), Nat.add_sub_cancel] at h
      have ce := hC e (by omega)
      have fe := hF e (by omega)
      rw [pk_m1]
      refine br_f (nI_pos (by omega)) ⟨pk_in e 8 (by omega), ?_⟩
      rw [nI_clamp (by omega)]
      refine nm_r ce.2 ⟨pk_in e 8 (by omega), nm_e ⟨pk_in e 8 (by omega), nm_r fe.2 (nm_r (nI_1 s) ?_)⟩⟩
      exact ih (s + 1) (F e) (C e) _ _ (by omega) fe.1 ce.1 (md_Mu hC hc) h
theorem md_along {post : St2 → Prop} {q : Int32} {e c : Nat} {C F : Nat → Nat} {k : (Nat → Nat) → Bool} (he : e < 8) (hc : c < 3) (hF : md_F F a6) (hC : md_M 8 3 C a5) (h : md_pa F k 8 (e + 1) c C = true) (H : ∀ C' a5', md_M 8 3 C' a5' → k C' = true → post (q, a1, a2, a3, a4, a5', a6, a7, a8, a9, a10, a11)) : wpX_pushAlong post (q, a1, a2, a3, a4, a5, a6, a7, a8, a9, a10, a11) (nI e) (nI c) := by
  have t := md_push8 (q := q) (a1 := a1) (a2 := a2) (a3 := a3) (a4 := a4) (a7 := a7) (a8 := a8) (a9 := a9) (a10 := a10) (a11 := a11) hF H 8 0 (e + 1) c C a5 rfl (by omega) hc hC h
  rw [pk_m1] at t
  unfold wpX_pushAlong
  exact ⟨9, t⟩
theorem md_ri2 {post : St2 → Prop} {f e : Nat} {C : Nat → Nat} {k : md_K} (hf : f < 4) (h1 : md_M 8 32 (md_V f) a1) (hC : md_M 8 3 C a5) (he : e < 8)
    (H : ∀ q' F' R' Q' a4' a6' a7' a8', md_S q' F' R' Q' a6' a7' a8' → k q' F' R' Q' = true → post (nI q', a1, a2, a3, a4', a5, a6', a7', a8', a9, a10, a11)) :
    ∀ n o q F R Q a4 a6 a7 a8, o + n = 8 → md_S q F R Q a6 a7 a8 → md_ri f C e k n o q F R Q = true → wX_reachInClasses_2 post (nI e) (n + 1) (nI o) (nI q) a1 a2 a3 a4 a5 a6 a7 a8 a9 a10 a11 := by
  intro n
  induction n with
  | zero =>
    intro o q F R Q a4 a6 a7 a8 ho hs h
    exact pk_le 8 o (fun _ => H q F R Q a4 a6 a7 a8 hs h) (fun z => absurd z (by omega))
  | succ n ih =>
    intro o q F R Q a4 a6 a7 a8 ho hs h
    have ce := hC e he
    have co := hC o (by omega)
    have ro := hs.2.2.1 o (by omega)
    have hm := md_mb_lt (C := C) (k := C o) 8 0 0 rfl (by decide)
    have i2 := md_I_lt f (md_dl (md_s (md_mb C (C o) 8 0 0) e) o)
    rw [md_ri] at h
    dsimp only at h
    have go : ∀ a4, md_ri f C e k n (o + 1) q F R Q = true → ∀ x : Int32, x = nI o + 1 → wX_reachInClasses_2 post (nI e) (n + 1) x (nI q) a1 a2 a3 a4 a5 a6 a7 a8 a9 a10 a11 :=
      fun a4 h => nm_r (nI_1 o) (ih (o + 1) q F R Q a4 a6 a7 a8 (by omega) hs h)
    refine pk_le 8 o (fun z => absurd z (by omega)) (fun _ => ⟨pk_in o 8 (by omega), ?_⟩)
    rw [nI_clamp (show o < 2 ^ 31 by omega), nI_clamp (show e < 2 ^ 31 by omega)]
    refine pk_le (C o) 0 (fun z => ?_) (fun z => ⟨pk_in o 8 (by omega), pk_in e 8 he, ?_⟩) (hx := co.2)
    · rw [if_neg (fun t => t.1 (by omega))] at h
      exact go a4 h
    · refine pk_eq (C o) (C e) (fun y => ?_) (fun y => ⟨pk_in o 8 (by omega), ?_⟩) (hx := co.2) (hy := ce.2)
      · rw [if_neg (fun t => t.2.1 y)] at h
        exact go a4 h
      · refine pk_eq (R o) 0 (fun x => ⟨pk_in o 8 (by omega), ?_⟩) (fun x => ?_) (hx := ro.2)
        · rw [co.2]
          refine md_members co.1 hC ?_
          dsimp only
          rw [md_st _ (by omega), md_rm _ (by omega)]
          refine md_indep hf (md_dl_lt (md_s_lt hm he)) h1 (fun a4' => ?_)
          refine pk_eq (md_I f (md_dl (md_s (md_mb C (C o) 8 0 0) e) o)) 0 (fun w => ?_) (fun w => ?_)
          · rw [if_neg (fun t => absurd t.2.2.2 (by omega))] at h
            exact go a4' h
          · rw [if_pos ⟨by omega, y, x, by omega⟩] at h
            exact md_reach hs (by omega) (by omega) (pk_m1 e).symm h (fun q' F' R' Q' a6' a7' a8' hs' h' => nm_r (nI_1 o) (ih (o + 1) q' F' R' Q' a4' a6' a7' a8' (by omega) hs' h'))
        · rw [if_neg (fun t => x t.2.2.1)] at h
          exact go a4 h
theorem md_inClasses {post : St2 → Prop} {f e q : Nat} {C F R Q : Nat → Nat} {k : md_K} (hf : f < 4) (h1 : md_M 8 32 (md_V f) a1) (hC : md_M 8 3 C a5) (he : e < 8) (hs : md_S q F R Q a6 a7 a8) (h : md_ri f C e k 8 0 q F R Q = true)
    (H : ∀ q' F' R' Q' a4' a6' a7' a8', md_S q' F' R' Q' a6' a7' a8' → k q' F' R' Q' = true → post (nI q', a1, a2, a3, a4', a5, a6', a7', a8', a9, a10, a11)) : wpX_reachInClasses post (nI q, a1, a2, a3, a4, a5, a6, a7, a8, a9, a10, a11) (nI e) := by
  unfold wpX_reachInClasses
  exact ⟨9, md_ri2 hf h1 hC he H 8 0 q F R Q a4 a6 a7 a8 rfl hs h⟩
theorem md_p36 {post : Int32 → St2 → Prop} {J : Int32 → Int32 → (Nat → Int32) → (Nat → Int32) → (Nat → Int32) → (Nat → Int32) → (Nat → Int32) → (Nat → Int32) → (Nat → Int32) → (Nat → Int32) → (Nat → Int32) → (Nat → Int32) → (Nat → Int32) → Prop} {x : Int32} {f e q c n : Nat} {C F R Q : Nat → Nat} {k : (Nat → Nat) → Bool}
    (hf : f < 4) (h1 : md_M 8 32 (md_V f) a1) (hC : md_M 8 3 C a5) (he : e < 8) (hc : c < 3) (hs : md_S q F R Q a6 a7 a8)
    (hn : ¬ (¬ C e = c ∧ md_I f (md_s (md_mb C c 8 0 0) e) = 1) → ∀ a4', wX_place_36 post J x (nI e) n (nI (c + 1)) (nI q) a1 a2 a3 a4' a5 a6 a7 a8 a9 a10 a11)
    (hp : (¬ C e = c ∧ md_I f (md_s (md_mb C c 8 0 0) e) = 1) → md_pa F k 8 (e + 1) c C = true)
    (H : ∀ C' a4' a5', md_M 8 3 C' a5' → k C' = true → post 1 (nI q, a1, a2, a3, a4', a5', a6, a7, a8, a9, a10, a11)) : wX_place_36 post J x (nI e) (n + 1) (nI c) (nI q) a1 a2 a3 a4 a5 a6 a7 a8 a9 a10 a11 := by
  have ce := hC e he
  have hm := md_mb_lt (C := C) (k := c) 8 0 0 rfl (by decide)
  have i2 := md_I_lt f (md_s (md_mb C c 8 0 0) e)
  refine pk_le 3 c (fun z => absurd z (by omega)) (fun _ => ?_)
  refine md_members hc hC ?_
  refine ⟨pk_in e 8 he, ?_⟩
  rw [nI_clamp (show e < 2 ^ 31 by omega)]
  refine pk_eq (C e) c (fun z => nm_r (nI_1 c) (hn (fun t => t.1 z) a4)) (fun z => ?_) (hx := ce.2)
  rw [md_st _ (by omega)]
  refine md_indep hf (md_s_lt hm he) h1 (fun a4' => ?_)
  refine pk_eq (md_I f (md_s (md_mb C c 8 0 0) e)) 0 (fun y => nm_r (nI_1 c) (hn (fun t => absurd t.2 (by omega)) a4')) (fun y => ?_)
  exact md_along he hc hs.2.1 hC (hp ⟨z, by omega⟩) (fun C' a5' hC' h' => H C' a4' a5' hC' h')
theorem md_p12 {post : Int32 → St2 → Prop} {f : Nat} {C : Nat → Nat} {k : Nat → (Nat → Nat) → Bool} (hf : f < 4) (h1 : md_M 8 32 (md_V f) a1) (hC : md_M 8 3 C a5)
    (H : ∀ r C' q' a4' a5' a6' a7' a8', r < 2 → md_M 8 3 C' a5' → k r C' = true → post (nI r) (q', a1, a2, a3, a4', a5', a6', a7', a8', a9, a10, a11)) :
    ∀ n i q F R Q a4 a6 a7 a8, i + n = 8 → md_S q F R Q a6 a7 a8 → md_p1 f C k n i q F R Q = true → wX_place_12 post (n + 1) (nI i) (nI q) a1 a2 a3 a4 a5 a6 a7 a8 a9 a10 a11 := by
  intro n
  induction n with
  | zero =>
    intro i q F R Q a4 a6 a7 a8 hi hs h
    have hq := hs.1
    refine pk_le q i (fun _ => H 0 C (nI q) a4 a5 a6 a7 a8 (by decide) hC h) (fun _ => ?_)
    exact pk_le 8 i (fun _ => H 0 C (nI q) a4 a5 a6 a7 a8 (by decide) hC h) (fun z => absurd z (by omega))
  | succ n ih =>
    intro i q F R Q a4 a6 a7 a8 hi hs h
    obtain ⟨hq, hF, hR, hQ⟩ := id hs
    rw [md_p1] at h
    dsimp only at h
    refine pk_le q i (fun z => ?_) (fun z => ?_)
    · rw [if_pos z] at h
      exact H 0 C (nI q) a4 a5 a6 a7 a8 (by decide) hC h
    · rw [if_neg (by omega)] at h
      have qi := hQ i z
      refine pk_le 8 i (fun z => absurd z (by omega)) (fun _ => ⟨pk_in i 8 (by omega), ?_⟩)
      rw [nI_clamp (show i < 2 ^ 31 by omega)]
      refine nm_r qi.2 ⟨3, ?_⟩
      refine md_p36 (c := 1) (n := 2) (k := k 1) hf h1 hC qi.1 (by decide) hs (fun t1 b4 => ?_) (fun t1 => ?_) (fun C' a4' a5' hC' h' => H 1 C' (nI q) a4' a5' a6 a7 a8 (by decide) hC' h')
      · rw [if_neg t1] at h
        refine md_p36 (c := 2) (n := 1) (k := k 1) hf h1 hC qi.1 (by decide) hs (fun t2 c4 => ?_) (fun t2 => ?_) (fun C' a4' a5' hC' h' => H 1 C' (nI q) a4' a5' a6 a7 a8 (by decide) hC' h')
        · rw [if_neg t2] at h
          refine pk_le 3 3 (fun _ => ?_) (fun z => absurd z (by decide))
          exact md_inClasses hf h1 hC qi.1 hs h (fun q' F' R' Q' a4' a6' a7' a8' hs' h' => nm_r (nI_1 i) (ih (i + 1) q' F' R' Q' a4' a6' a7' a8' (by omega) hs' h'))
        · rw [if_pos t2] at h
          exact h
      · rw [if_pos t1] at h
        exact h
theorem md_place {post : Int32 → St2 → Prop} {q : Int32} {f e : Nat} {C : Nat → Nat} {k : Nat → (Nat → Nat) → Bool} (hf : f < 4) (h1 : md_M 8 32 (md_V f) a1) (hC : md_M 8 3 C a5) (he : e < 8) (h : md_pl f C e k = true)
    (H : ∀ r C' q' a4' a5' a6' a7' a8', r < 2 → md_M 8 3 C' a5' → k r C' = true → post (nI r) (q', a1, a2, a3, a4', a5', a6', a7', a8', a9, a10, a11)) : wpX_place post (q, a1, a2, a3, a4, a5, a6, a7, a8, a9, a10, a11) (nI e) := by
  unfold md_pl at h
  unfold wpX_place
  refine md_start (fun a6' a7' hs => ?_)
  refine md_reach hs he (by decide) (by decide) h (fun q' F' R' Q' b6 b7 b8 hs' h' => ?_)
  exact ⟨9, md_p12 hf h1 hC H 8 0 q' F' R' Q' a4 b6 b7 b8 rfl hs' h'⟩
theorem md_un8 {post : Int32 → St2 → Prop} {f X : Nat} (hf : f < 4) (h1 : md_M 8 32 (md_V f) a1) (H : ∀ q' a4' a5' a6' a7' a8', post (nI X) (q', a1, a2, a3, a4', a5', a6', a7', a8', a9, a10, a11)) :
    ∀ n e c C q a4 a5 a6 a7 a8, e + n = 8 → md_M 8 3 C a5 → md_un f X n e c C = true → wX_union_8 post (n + 1) (nI c) (nI e) q a1 a2 a3 a4 a5 a6 a7 a8 a9 a10 a11 := by
  intro n
  induction n with
  | zero =>
    intro e c C q a4 a5 a6 a7 a8 he hC h
    rw [md_un] at h
    obtain rfl := of_decide_eq_true h
    exact pk_le 8 e (fun _ => H q a4 a5 a6 a7 a8) (fun z => absurd z (by omega))
  | succ n ih =>
    intro e c C q a4 a5 a6 a7 a8 he hC h
    rw [md_un] at h
    refine pk_le 8 e (fun z => absurd z (by omega)) (fun _ => ?_)
    refine md_place hf h1 hC (by omega) h (fun r C' q' a4' a5' a6' a7' a8' hr hC' h' => ?_)
    refine pk_eq r 0 (fun z => ?_) (fun z => ?_)
    · subst z
      exact nm_r (Int32.add_zero _) (nm_r (nI_1 e) (ih (e + 1) c C' q' a4' a5' a6' a7' a8' (by omega) hC' h'))
    · obtain rfl : r = 1 := by omega
      exact nm_r (nI_1 c) (nm_r (nI_1 e) (ih (e + 1) (c + 1) C' q' a4' a5' a6' a7' a8' (by omega) hC' h'))
theorem md_union {post : Int32 → St2 → Prop} {q : Int32} {f : Nat} (hf : f < 4) (h1 : md_M 8 32 (md_V f) a1) (H : ∀ q' a4' a5' a6' a7' a8', post (nI (md_uv f)) (q', a1, a2, a3, a4', a5', a6', a7', a8', a9, a10, a11)) : wpX_union post (q, a1, a2, a3, a4, a5, a6, a7, a8, a9, a10, a11) := by
  unfold wpX_union
  refine md_clear (fun a5' h5 => ?_)
  exact ⟨9, md_un8 hf h1 H 8 0 0 md_Z q a4 a5' a6 a7 a8 rfl h5 (md_un0 f hf)⟩
end
end
section

def md_cs (f m : Nat) : Nat → Nat → Nat → Nat
  | 0, _, x => x
  | n + 1, e, x => md_cs f m n (e + 1) (if md_T f (md_s m e) = md_T f m then md_s x e else x)
/-- heaviestOf: the best so far, 0 for none -/
def md_ho (G : Nat → Nat) (s : Nat) : Nat → Nat → Nat → Nat
  | 0, _, b => b
  | n + 1, e, b => md_ho G s n (e + 1) (if md_b s e = 0 then b else if b = 0 then e + 1 else if G e ≤ G (b - 1) then b else e + 1)
def md_co (s : Nat) : Nat := 255 &&& (s ^^^ 4294967295)
def md_hv (f : Nat) (G : Nat → Nat) : Nat → Nat → Nat → Nat
  | 0, t, _ => t
  | n + 1, t, s => if md_ho G (md_co s) 8 0 0 = 0 then 999 else
      if md_I f (md_s t (md_ho G (md_co s) 8 0 0 - 1)) = 0 then md_hv f G n t (md_s s (md_ho G (md_co s) 8 0 0 - 1)) else
      if md_b t (md_ho G (md_co s) 8 0 0 - 1) = 0 then md_hv f G n (md_s t (md_ho G (md_co s) 8 0 0 - 1)) (md_s s (md_ho G (md_co s) 8 0 0 - 1)) else 999
def md_G (x y j : Nat) : Nat := if j = 5 then x else if j = 6 then y else 2
def md_hvB (f x y : Nat) : Bool := decide (md_hv f (md_G x y) 8 0 0 < 256 ∧ (2 ≤ x ∨ md_b (md_hv f (md_G x y) 8 0 0) 5 = 0) ∧ (x ≤ 2 ∨ md_b (md_hv f (md_G x y) 8 0 0) 5 = 1) ∧ (2 ≤ y ∨ md_b (md_hv f (md_G x y) 8 0 0) 6 = 0) ∧ (y ≤ 2 ∨ md_b (md_hv f (md_G x y) 8 0 0) 6 = 1))
theorem md_hvA : ∀ f, f < 4 → ∀ z, z < 25 → md_hvB f (z / 5) (z % 5) = true := by decide +kernel
theorem md_hvT (f : Nat) (hf : f < 4) (x : Nat) (hx : x < 5) (y : Nat) (hy : y < 5) : md_hv f (md_G x y) 8 0 0 < 256 ∧ (2 ≤ x ∨ md_b (md_hv f (md_G x y) 8 0 0) 5 = 0) ∧ (x ≤ 2 ∨ md_b (md_hv f (md_G x y) 8 0 0) 5 = 1) ∧ (2 ≤ y ∨ md_b (md_hv f (md_G x y) 8 0 0) 6 = 0) ∧ (y ≤ 2 ∨ md_b (md_hv f (md_G x y) 8 0 0) 6 = 1) := by
  have t := md_hvA f hf (x * 5 + y) (by omega)
  rw [show (x * 5 + y) / 5 = x by omega, show (x * 5 + y) % 5 = y by omega] at t
  exact of_decide_eq_true t
theorem md_sbits : ∀ t, t < 256 → ∀ e, e < 8 → md_b (md_s t e) 5 = (if e = 5 then 1 else md_b t 5) ∧ md_b (md_s t e) 6 = (if e = 6 then 1 else md_b t 6) := by decide +kernel
def md_w (a b : Int32) (j : Nat) : Int32 := if j = 5 then a else if j = 6 then b else 0
def md_sm (a b : Int32) (t : Nat) : Int32 := (if md_b t 5 = 0 then 0 else a) + (if md_b t 6 = 0 then 0 else b)
def md_mx (a : Int32) : Int32 := if a ≤ 0 then 0 else a
theorem md_sm_add {a b : Int32} {t e : Nat} (ht : t < 256) (he : e < 8) (h : md_b t e = 0) : md_sm a b t + md_w a b e = md_sm a b (md_s t e) := by
  obtain ⟨s5, s6⟩ := md_sbits t ht e he
  unfold md_sm md_w
  by_cases z5 : e = 5
  · subst z5
    have s5' : md_b (md_s t 5) 5 = 1 := s5
    have s6' : md_b (md_s t 5) 6 = md_b t 6 := s6
    rw [s5', s6', h]
    generalize (if md_b t 6 = 0 then (0 : Int32) else b) = y
    show (0 : Int32) + y + a = a + y
    rw [Int32.zero_add, Int32.add_comm]
  · by_cases z6 : e = 6
    · subst z6
      have s5' : md_b (md_s t 6) 5 = md_b t 5 := s5
      have s6' : md_b (md_s t 6) 6 = 1 := s6
      rw [s5', s6', h]
      generalize (if md_b t 5 = 0 then (0 : Int32) else a) = y
      show y + (0 : Int32) + b = y + b
      rw [Int32.add_zero]
    · rw [s5, s6, if_neg z5, if_neg z5, if_neg z6, if_neg z6, Int32.add_zero]
theorem md_ho_le {G : Nat → Nat} {s : Nat} : ∀ n e b, e + n = 8 → b ≤ 8 → md_ho G s n e b ≤ 8 := by
  intro n
  induction n with
  | zero =>
    intro e b _ hb
    exact hb
  | succ n ih =>
    intro e b he hb
    rw [md_ho]
    refine ih (e + 1) _ (by omega) ?_
    split
    · exact hb
    · split
      · omega
      · split
        · exact hb
        · omega
theorem md_ord (A B : Int) : ∃ x y : Nat, x < 5 ∧ y < 5 ∧ (A ≤ B ↔ x ≤ y) ∧ (B ≤ A ↔ y ≤ x) ∧ (A ≤ 0 ↔ x ≤ 2) ∧ (0 ≤ A ↔ 2 ≤ x) ∧ (B ≤ 0 ↔ y ≤ 2) ∧ (0 ≤ B ↔ 2 ≤ y) := by
  rcases Int.lt_trichotomy A 0 with a | a | a <;> rcases Int.lt_trichotomy B 0 with b | b | b <;> rcases Int.lt_trichotomy A B with c | c | c
  all_goals first
    | (exfalso; omega)
    | (refine ⟨0, 1, ?_, ?_, ?_, ?_, ?_, ?_, ?_, ?_⟩ <;> omega)
    | (refine ⟨1, 0, ?_, ?_, ?_, ?_, ?_, ?_, ?_, ?_⟩ <;> omega)
    | (refine ⟨1, 1, ?_, ?_, ?_, ?_, ?_, ?_, ?_, ?_⟩ <;> omega)
    | (refine ⟨1, 2, ?_, ?_, ?_, ?_, ?_, ?_, ?_, ?_⟩ <;> omega)
    | (refine ⟨1, 3, ?_, ?_, ?_, ?_, ?_, ?_, ?_, ?_⟩ <;> omega)
    | (refine ⟨2, 1, ?_, ?_, ?_, ?_, ?_, ?_, ?_, ?_⟩ <;> omega)
    | (refine ⟨2, 2, ?_, ?_, ?_, ?_, ?_, ?_, ?_, ?_⟩ <;> omega)
    | (refine ⟨2, 3, ?_, ?_, ?_, ?_, ?_, ?_, ?_, ?_⟩ <;> omega)
    | (refine ⟨3, 1, ?_, ?_, ?_, ?_, ?_, ?_, ?_, ?_⟩ <;> omega)
    | (refine ⟨3, 2, ?_, ?_, ?_, ?_, ?_, ?_, ?_, ?_⟩ <;> omega)
    | (refine ⟨3, 3, ?_, ?_, ?_, ?_, ?_, ?_, ?_, ?_⟩ <;> omega)
    | (refine ⟨3, 4, ?_, ?_, ?_, ?_, ?_, ?_, ?_, ?_⟩ <;> omega)
    | (refine ⟨4, 3, ?_, ?_, ?_, ?_, ?_, ?_, ?_, ?_⟩ <;> omega)
theorem md_wG {a b : Int32} {x y : Nat} (o1 : a.toInt ≤ b.toInt ↔ x ≤ y) (o2 : b.toInt ≤ a.toInt ↔ y ≤ x) (o3 : a.toInt ≤ 0 ↔ x ≤ 2) (o4 : 0 ≤ a.toInt ↔ 2 ≤ x) (o5 : b.toInt ≤ 0 ↔ y ≤ 2) (o6 : 0 ≤ b.toInt ↔ 2 ≤ y) (i j : Nat) : md_w a b i ≤ md_w a b j ↔ md_G x y i ≤ md_G x y j := by
  rw [Int32.le_iff_toInt_le]
  unfold md_w md_G
  by_cases i5 : i = 5
  · rw [if_pos i5, if_pos i5]
    by_cases j5 : j = 5
    · rw [if_pos j5, if_pos j5]
      omega
    · rw [if_neg j5, if_neg j5]
      by_cases j6 : j = 6
      · rw [if_pos j6, if_pos j6]
        exact o1
      · rw [if_neg j6, if_neg j6, Int32.toInt_zero]
        exact o3
  · rw [if_neg i5, if_neg i5]
    by_cases i6 : i = 6
    · rw [if_pos i6, if_pos i6]
      by_cases j5 : j = 5
      · rw [if_pos j5, if_pos j5]
        exact o2
      · rw [if_neg j5, if_neg j5]
        by_cases j6 : j = 6
        · rw [if_pos j6, if_pos j6]
          omega
        · rw [if_neg j6, if_neg j6, Int32.toInt_zero]
          exact o5
    · rw [if_neg i6, if_neg i6, Int32.toInt_zero]
      by_cases j5 : j = 5
      · rw [if_pos j5, if_pos j5]
        exact o4
      · rw [if_neg j5, if_neg j5]
        by_cases j6 : j = 6
        · rw [if_pos j6, if_pos j6]
          exact o6
        · rw [if_neg j6, if_neg j6, Int32.toInt_zero]
          omega
theorem md_mx1 {a : Int32} {x t : Nat} (o3 : a.toInt ≤ 0 ↔ x ≤ 2) (o4 : 0 ≤ a.toInt ↔ 2 ≤ x) (t1 : 2 ≤ x ∨ t = 0) (t2 : x ≤ 2 ∨ t = 1) : (if t = 0 then 0 else a) = md_mx a := by
  unfold md_mx
  by_cases z : a ≤ 0
  · rw [if_pos z]
    rw [Int32.le_iff_toInt_le, Int32.toInt_zero] at z
    by_cases y : x < 2
    · rw [if_pos (by omega)]
    · have e : a = 0 := by
        apply Int32.toInt_inj.mp
        rw [Int32.toInt_zero]
        omega
      rw [e]
      split <;> rfl
  · rw [if_neg z]
    rw [Int32.le_iff_toInt_le, Int32.toInt_zero] at z
    rw [if_neg (by omega)]
section
variable {a1 a2 a3 a4 a5 a6 a7 a8 a9 a10 a11 : Nat → Int32}
theorem md_cs18 {post : Int32 → St2 → Prop} {q : Int32} {f m X : Nat} (hf : f < 4) (hm : m < 256) (h1 : md_M 8 32 (md_V f) a1) (H : ∀ a4', post (nI X) (q, a1, a2, a3, a4', a5, a6, a7, a8, a9, a10, a11)) :
    ∀ n e x a4, e + n = 8 → md_cs f m n e x = X → wX_closure_18 post (nI m) (nI (md_T f m)) (n + 1) (nI x) (nI e) q a1 a2 a3 a4 a5 a6 a7 a8 a9 a10 a11 := by
  intro n
  induction n with
  | zero =>
    intro e x a4 he h
    refine pk_le 8 e (fun _ => ?_) (fun z => absurd z (by omega))
    have t := H a4
    rw [← h] at t
    exact t
  | succ n ih =>
    intro e x a4 he h
    have t1 := md_T_lt f m
    have t2 := md_T_lt f (md_s m e)
    rw [md_cs] at h
    refine pk_le 8 e (fun z => absurd z (by omega)) (fun _ => ?_)
    rw [md_st m (by omega), md_st x (by omega)]
    refine md_rank hf (md_s_lt hm (by omega)) h1 (fun a4' => ?_)
    refine pk_eq (md_T f (md_s m e)) (md_T f m) (fun z => ?_) (fun z => ?_)
    · rw [if_pos z] at h
      exact nm_e (nm_r (nI_1 e) (ih (e + 1) _ a4' (by omega) h))
    · rw [if_neg z] at h
      exact nm_r (md_or0 x) (nm_r (nI_1 e) (ih (e + 1) _ a4' (by omega) h))
theorem md_closure {post : Int32 → St2 → Prop} {q : Int32} {f m : Nat} (hf : f < 4) (hm : m < 256) (h1 : md_M 8 32 (md_V f) a1) (H : ∀ a4', post (nI (md_cs f m 8 0 m)) (q, a1, a2, a3, a4', a5, a6, a7, a8, a9, a10, a11)) : wpX_closure post (q, a1, a2, a3, a4, a5, a6, a7, a8, a9, a10, a11) (nI m) := by
  unfold wpX_closure
  refine nm_r (e' := nI m) ?_ ?_
  · have t := pk_andN (n := m) (by omega) (m := 255) 8 (by decide)
    rw [Nat.mod_eq_of_lt (show m < 2 ^ 8 from hm)] at t
    exact t
  · refine md_rank hf hm h1 (fun a4' => ?_)
    exact ⟨9, md_cs18 hf hm h1 H 8 0 m a4' rfl rfl⟩
theorem md_ho4 {post : Int32 → Prop} {q : Int32} {G : Nat → Nat} {s X : Nat} (hs : s < 256) (hG : ∀ i j, i < 8 → j < 8 → (a3 i ≤ a3 j ↔ G i ≤ G j)) (H : post (nI X + (-1))) :
    ∀ n e b, e + n = 8 → b ≤ 8 → md_ho G s n e b = X → wX_heaviestOf_4 post (nI s) q a1 a2 a3 a4 a5 a6 a7 a8 a9 a10 a11 (n + 1) (nI b + (-1)) (nI e) := by
  intro n
  induction n with
  | zero =>
    intro e b he hb h
    refine pk_le 8 e (fun _ => ?_) (fun z => absurd z (by omega))
    rw [← h] at H
    exact H
  | succ n ih =>
    intro e b he hb h
    rw [md_ho] at h
    have go : ∀ b', b' ≤ 8 → md_ho G s n (e + 1) b' = X → ∀ x : Int32, x = nI e + 1 → wX_heaviestOf_4 post (nI s) q a1 a2 a3 a4 a5 a6 a7 a8 a9 a10 a11 (n + 1) (nI b' + (-1)) x :=
      fun b' hb' h' => nm_r (nI_1 e) (ih (e + 1) b' (by omega) hb' h')
    have ge : md_ho G s n (e + 1) (e + 1) = X → ∀ x : Int32, x = nI e + 1 → wX_heaviestOf_4 post (nI s) q a1 a2 a3 a4 a5 a6 a7 a8 a9 a10 a11 (n + 1) (nI e) x := by
      intro h'
      have t := go (e + 1) (by omega) h'
      rw [pk_m1] at t
      exact t
    refine pk_le 8 e (fun z => absurd z (by omega)) (fun _ => ?_)
    rcases Nat.eq_zero_or_pos b with w | w
    · subst w
      refine br_t (by decide) ?_
      unfold wX_heaviestOf_29 wX_heaviestOf_34
      refine md_br (by omega) (by omega) (fun z => ?_) (fun z => br_f (by decide) ?_)
      · rw [if_pos z] at h
        exact go 0 hb h
      · rw [if_neg z, if_pos rfl] at h
        exact ge h
    · obtain ⟨p, rfl⟩ : ∃ p, b = p + 1 := ⟨b - 1, by omega⟩
      have gp := go (p + 1) hb
      rw [pk_m1] at gp ⊢
      rw [if_neg (show ¬ p + 1 = 0 by omega), Nat.add_sub_cancel] at h
      refine br_f (nI_pos (by omega)) ⟨pk_in e 8 (by omega), pk_in p 8 (by omega), ?_⟩
      rw [nI_clamp (show e < 2 ^ 31 by omega), nI_clamp (show p < 2 ^ 31 by omega)]
      have g := hG e p (by omega) (by omega)
      refine br_c (fun y => ?_) (fun y => ?_)
      · rw [g] at y
        unfold wX_heaviestOf_34
        refine md_br (by omega) (by omega) (fun z => ?_) (fun z => br_t rfl ?_)
        · rw [if_pos z] at h
          exact gp h
        · rw [if_neg z, if_pos y] at h
          exact gp h
      · rw [g] at y
        unfold wX_heaviestOf_29 wX_heaviestOf_34
        refine md_br (by omega) (by omega) (fun z => ?_) (fun z => br_f (by decide) ?_)
        · rw [if_pos z] at h
          exact gp h
        · rw [if_neg z, if_neg y] at h
          exact ge h
theorem md_heavOf {post : Int32 → Prop} {q : Int32} {G : Nat → Nat} {s : Nat} (hs : s < 256) (hG : ∀ i j, i < 8 → j < 8 → (a3 i ≤ a3 j ↔ G i ≤ G j)) (H : post (nI (md_ho G s 8 0 0) + (-1))) : wpX_heaviestOf post (q, a1, a2, a3, a4, a5, a6, a7, a8, a9, a10, a11) (nI s) := by
  unfold wpX_heaviestOf
  exact ⟨9, md_ho4 hs hG H 8 0 0 rfl (by decide) rfl⟩
theorem md_hv9 {post : Int32 → St2 → Prop} {q : Int32} {f X : Nat} {G : Nat → Nat} {a b : Int32} (hf : f < 4) (h1 : md_M 8 32 (md_V f) a1) (hG : ∀ i j, i < 8 → j < 8 → (a3 i ≤ a3 j ↔ G i ≤ G j)) (h3 : ∀ j, j < 8 → a3 j = md_w a b j) (hX : X < 256) (H : ∀ a4', post (md_sm a b X) (q, a1, a2, a3, a4', a5, a6, a7, a8, a9, a10, a11)) :
    ∀ n i t s a4, i + n = 8 → t < 256 → s < 256 → md_hv f G n t s = X → wX_heaviest_9 post (n + 1) (nI t) (nI s) (md_sm a b t) (nI i) q a1 a2 a3 a4 a5 a6 a7 a8 a9 a10 a11 := by
  intro n
  induction n with
  | zero =>
    intro i t s a4 hi ht hs h
    refine pk_le 8 i (fun _ => ?_) (fun z => absurd z (by omega))
    have t := H a4
    rw [← h] at t
    exact t
  | succ n ih =>
    intro i t s a4 hi ht hs h
    refine pk_le 8 i (fun z => absurd z (by omega)) (fun _ => ?_)
    have ec : (255 : Int32) &&& (nI s ^^^ (-1)) = nI (md_co s) := by
      rw [md_m1, md_xor]
      exact md_and 255 _
    rw [ec]
    have hc : md_co s < 256 := Nat.lt_of_le_of_lt Nat.and_le_left (by decide)
    refine md_heavOf hc hG ?_
    rw [md_hv] at h
    have hb := md_ho_le (G := G) (s := md_co s) 8 0 0 rfl (by decide)
    by_cases z : md_ho G (md_co s) 8 0 0 = 0
    · rw [if_pos z] at h
      omega
    · rw [if_neg z] at h
      obtain ⟨e, he⟩ : ∃ e, md_ho G (md_co s) 8 0 0 = e + 1 := ⟨md_ho G (md_co s) 8 0 0 - 1, by omega⟩
      rw [he, Nat.add_sub_cancel] at h
      rw [he, pk_m1]
      rw [he] at hb
      have i2 := md_I_lt f (md_s t e)
      rw [md_st t (by omega), md_st s (by omega)]
      refine nm_e (md_indep hf (md_s_lt ht (by omega)) h1 (fun a4' => ?_))
      refine pk_eq (md_I f (md_s t e)) 0 (fun y => ?_) (fun y => ?_)
      · rw [if_pos y] at h
        exact nm_r (nI_1 i) (ih (i + 1) t (md_s s e) a4' (by omega) ht (md_s_lt hs (by omega)) h)
      · rw [if_neg y] at h
        by_cases w : md_b t e = 0
        · rw [if_pos w] at h
          refine nm_e ⟨pk_in e 8 (by omega), ?_⟩
          rw [nI_clamp (show e < 2 ^ 31 by omega), h3 e (by omega), md_sm_add ht (by omega) w]
          exact nm_e (nm_r (nI_1 i) (ih (i + 1) (md_s t e) (md_s s e) a4' (by omega) (md_s_lt ht (by omega)) (md_s_lt hs (by omega)) h))
        · rw [if_neg w] at h
          omega
theorem md_heaviest {post : Int32 → St2 → Prop} {q : Int32} {f : Nat} {a b : Int32} (hf : f < 4) (h1 : md_M 8 32 (md_V f) a1) (h3 : ∀ j, j < 8 → a3 j = md_w a b j) (H : ∀ a4', post (md_mx a + md_mx b) (q, a1, a2, a3, a4', a5, a6, a7, a8, a9, a10, a11)) : wpX_heaviest post (q, a1, a2, a3, a4, a5, a6, a7, a8, a9, a10, a11) := by
  obtain ⟨x, y, hx, hy, o1, o2, o3, o4, o5, o6⟩ := md_ord a.toInt b.toInt
  obtain ⟨t0, t1, t2, t3, t4⟩ := md_hvT f hf x hx y hy
  have hG : ∀ i j, i < 8 → j < 8 → (a3 i ≤ a3 j ↔ md_G x y i ≤ md_G x y j) := fun i j hi hj => by
    rw [h3 i hi, h3 j hj]
    exact md_wG o1 o2 o3 o4 o5 o6 i j
  have e : md_sm a b (md_hv f (md_G x y) 8 0 0) = md_mx a + md_mx b := by
    unfold md_sm
    rw [md_mx1 o3 o4 t1 t2, md_mx1 o5 o6 t3 t4]
  have e0 : md_sm a b 0 = 0 := by
    show (0 : Int32) + 0 = 0
    decide
  rw [← e] at H
  have t := md_hv9 (q := q) (a2 := a2) (a5 := a5) (a6 := a6) (a7 := a7) (a8 := a8) (a9 := a9) (a10 := a10) (a11 := a11) hf h1 hG h3 t0 H 8 0 0 0 a4 rfl (by decide) (by decide) rfl
  rw [e0] at t
  unfold wpX_heaviest
  exact ⟨9, t⟩
end
end
section

/-! the law's numbers -/
def md_cl (x : Int32) : Int32 := if -100 ≤ x then (if x ≤ 100 then x else 100) else -100
theorem md_cl_br {P : Int32 → Prop} {x : Int32} (H : P (md_cl x)) : ((-100) ≤ x → ((x ≤ 100 → P x) ∧ (¬ x ≤ 100 → P 100))) ∧ (¬ (-100) ≤ x → P (-100)) := by
  unfold md_cl at H
  refine br_c (fun h => ?_) (fun h => ?_)
  · rw [if_pos h] at H
    refine br_c (fun g => ?_) (fun g => ?_)
    · rw [if_pos g] at H
      exact H
    · rw [if_neg g] at H
      exact H
  · rw [if_neg h] at H
    exact H
theorem md_cl_in (x : Int32) : -100 ≤ (md_cl x).toInt ∧ (md_cl x).toInt ≤ 100 := by
  have e1 : (100 : Int32).toInt = 100 := by decide
  have e2 : (-100 : Int32).toInt = -100 := by decide
  unfold md_cl
  split
  · rename_i h
    rw [Int32.le_iff_toInt_le, e2] at h
    split
    · rename_i g
      rw [Int32.le_iff_toInt_le, e1] at g
      exact ⟨h, g⟩
    · rw [e1]
      omega
  · rw [e2]
    omega
theorem md_mxT (a : Int32) : (md_mx a).toInt = if a.toInt ≤ 0 then 0 else a.toInt := by
  unfold md_mx
  by_cases z : a ≤ 0
  · rw [if_pos z]
    rw [Int32.le_iff_toInt_le, Int32.toInt_zero] at z
    rw [if_pos z, Int32.toInt_zero]
  · rw [if_neg z]
    rw [Int32.le_iff_toInt_le, Int32.toInt_zero] at z
    rw [if_neg z]
theorem md_best {a b z : Int32} (ha : -100 ≤ a.toInt ∧ a.toInt ≤ 100) (hb : -100 ≤ b.toInt ∧ b.toInt ≤ 100)
    (hz : (z = a ∧ (a + b) ≤ a ∧ ¬ a ≤ b) ∨ (z = b ∧ (a + b) ≤ a ∧ a ≤ b) ∨ (z = b ∧ ¬ (a + b) ≤ a ∧ (a + b) ≤ b) ∨ (z = a + b ∧ ¬ (a + b) ≤ a ∧ ¬ (a + b) ≤ b)) : md_mx a + md_mx b = md_mx z := by
  have e : (a + b).toInt = a.toInt + b.toInt := Jvm.Kit.i32_add (by omega) (by omega)
  have ma := md_mxT a
  have mb := md_mxT b
  have mz := md_mxT z
  have ba : 0 ≤ (md_mx a).toInt ∧ (md_mx a).toInt ≤ 100 := by
    rw [ma]
    split <;> omega
  have bb : 0 ≤ (md_mx b).toInt ∧ (md_mx b).toInt ≤ 100 := by
    rw [mb]
    split <;> omega
  have e2 : (md_mx a + md_mx b).toInt = (md_mx a).toInt + (md_mx b).toInt := Jvm.Kit.i32_add (by omega) (by omega)
  apply Int32.toInt_inj.mp
  rw [e2, ma, mb, mz]
  simp only [Int32.le_iff_toInt_le, e] at hz
  rcases hz with ⟨rfl, h⟩ | ⟨rfl, h⟩ | ⟨rfl, h⟩ | ⟨rfl, h⟩
  · split <;> split <;> omega
  · split <;> split <;> omega
  · split <;> split <;> omega
  · rw [e]
    split <;> split <;> split <;> omega
theorem md_a7 : ∀ e, e < 8 → nI e &&& 7 = nI e := by decide +kernel
theorem md_a31 : ∀ v, v < 32 → nI v &&& 31 = nI v := by decide +kernel
theorem md_p2 : ∀ i, i < 5 → (1 : Int32) <<< (nI i &&& 31) = nI (2 ^ i) ∧ 2 ^ i < 32 := by decide +kernel
theorem md_lowbit : ∀ l, l < 32 → ∀ i, i < 5 → (nI l >>> (nI i &&& 31)) &&& 1 = nI (md_b l i) := by decide +kernel
def md_n1 (l : Nat) : Int32 := if nI l &&& 3 = 3 then 0 else 1
def md_c1 (l : Nat) : Int32 := if nI l &&& 3 = 3 then 32 else 0
def md_c2 (l : Nat) : Int32 := if nI l &&& 7 = 7 then 64 else 0
def md_c3 (f l : Nat) : Int32 := if f = 0 then (if nI l &&& 24 = 24 then 128 else 0) else if f = 1 then (if nI l &&& 3 = 3 then 128 else 0) else if f = 2 then (if nI l &&& 4 = 0 then 0 else 128) else 128
theorem md_ranks : ∀ f, f < 4 → ∀ l, l < 32 → md_sz l 5 0 0 = md_T f l ∧ nI (md_T f (l ||| 32)) = nI (md_T f l) + md_n1 l := by decide +kernel
theorem md_closed : ∀ f, f < 4 → ∀ l, l < 32 → nI (md_cs f l 8 0 l) = ((nI l ||| md_c1 l) ||| md_c2 l) ||| md_c3 f l := by decide +kernel
theorem md_r255 : ∀ f, f < 4 → md_T f 255 = 5 := by decide +kernel
theorem md_Vs : ∀ f, f < 4 → (∀ j, j < 5 → md_V f j = 2 ^ j) ∧ md_V f 5 = 3 ∧ md_V f 6 = 7 ∧ md_V f 7 = (if f = 0 then 24 else if f = 1 then 3 else if f = 2 then 4 else 0) := by decide +kernel
section
variable {a1 a2 a3 a4 a5 a6 a7 a8 a9 a10 a11 : Nat → Int32}
theorem md_init93 {post : St2 → Prop} {mc ms kc ks : Nat} {q : Int32} (H : ∀ a2', md_M 8 8 md_k0 a2' → post (q, a1, a2', a3, a4, a5, a6, a7, a8, a9, a10, a11)) :
    ∀ n i a2, i + n = 8 → (∀ j, j < i → a2 j = nI j) → wX_init_93 post mc ms kc ks q (n + 1) (nI i) a1 a2 a3 a4 a5 a6 a7 a8 a9 a10 a11 := by
  intro n
  induction n with
  | zero =>
    intro i a2 hi h
    exact pk_le 8 i (fun _ => H a2 (fun j hj => ⟨hj, h j (by omega)⟩)) (fun z => absurd z (by omega))
  | succ n ih =>
    intro i a2 hi h
    refine pk_le 8 i (fun z => absurd z (by omega)) (fun _ => ⟨pk_in i 8 (by omega), ?_⟩)
    rw [nI_clamp (by omega)]
    refine nm_e (nm_r (nI_1 i) (ih (i + 1) _ (by omega) ?_))
    intro j hj
    by_cases z : j = i
    · rw [z, pk_us]
    · rw [pk_un z]
      exact h j (by omega)
theorem md_init {post : St2 → Prop} {q : Int32} (H : ∀ a1 a2 a3 a4 a5 a6 a7 a8 a9 a10 a11, md_M 8 8 md_k0 a2 → (∀ j, j < 8 → a3 j = 0) → post (q, a1, a2, a3, a4, a5, a6, a7, a8, a9, a10, a11)) : wpX_init post 11 97 q := by
  unfold wpX_init
  refine ⟨by decide, by decide, by decide, by decide, by decide, by decide, by decide, by decide, by decide, by decide, by decide, by decide, by decide, by decide, by decide, by decide, by decide, by decide, by decide, by decide, by decide, by decide, 9, ?_⟩
  exact md_init93 (fun a2' h2 => H _ a2' _ _ _ _ _ _ _ _ _ h2 (fun j _ => rfl)) 8 0 _ rfl (fun j hj => absurd hj (by omega))
theorem md_vector {post : St2 → Prop} {q : Int32} {e v : Nat} (he : e < 8) (hv : v < 32) (H : post (q, upd a1 e (nI v), a2, a3, a4, a5, a6, a7, a8, a9, a10, a11)) : wpX_vector post (q, a1, a2, a3, a4, a5, a6, a7, a8, a9, a10, a11) (nI e) (nI v) := by
  unfold wpX_vector
  dsimp only
  rw [md_a7 e he, md_a31 v hv, nI_clamp (by omega)]
  exact ⟨pk_in e 8 he, nm_e H⟩
theorem md_colour {post : St2 → Prop} {q x : Int32} {e c : Nat} (he : e < 8) (hx : x &&& 7 = nI c) (H : post (q, a1, upd a2 e (nI c), a3, a4, a5, a6, a7, a8, a9, a10, a11)) : wpX_colour post (q, a1, a2, a3, a4, a5, a6, a7, a8, a9, a10, a11) (nI e) x := by
  unfold wpX_colour
  dsimp only
  rw [md_a7 e he, hx, nI_clamp (by omega)]
  exact ⟨pk_in e 8 he, nm_e H⟩
theorem md_weight {post : St2 → Prop} {q x : Int32} {e : Nat} (he : e < 8) (H : post (q, a1, a2, upd a3 e (md_cl x), a4, a5, a6, a7, a8, a9, a10, a11)) : wpX_weight post (q, a1, a2, a3, a4, a5, a6, a7, a8, a9, a10, a11) (nI e) x := by
  unfold wpX_weight
  dsimp only
  rw [md_a7 e he, nI_clamp (by omega)]
  exact md_cl_br (P := fun z => vp_in (nI e) 8 ∧ ∀ a, a = upd a3 e z → post (q, a1, a2, a, a4, a5, a6, a7, a8, a9, a10, a11)) ⟨pk_in e 8 he, nm_e H⟩
theorem md_L596 {post : Int32 → St0 → Prop} {mc ms kc ks : Nat} {q : Int32} {f : Nat} (hf : f < 4) (h1 : md_M 8 32 (md_V f) a1) {a b z0 : Int32} (h3 : ∀ j, j < 8 → a3 j = md_w a b j) (hz : md_mx a + md_mx b = md_mx z0) (H : post 1 ()) : wL_lawOf_596 post mc ms z0 kc ks q a1 a2 a3 a4 a5 a6 a7 a8 a9 a10 a11 := by
  unfold wL_lawOf_596
  refine md_heaviest hf h1 h3 (fun a4' => ?_)
  rw [hz]
  refine br_c (fun z => ?_) (fun z => ?_)
  · unfold wL_lawOf_614
    exact br_t (if_pos z) H
  · unfold wL_lawOf_614
    exact br_t (if_neg z) H
theorem md_L534 {post : Int32 → St0 → Prop} {mc ms kc ks : Nat} {q x2 x3 : Int32} {f : Nat} (hf : f < 4) (h1 : md_M 8 32 (md_V f) a1) (h3 : ∀ j, j < 8 → a3 j = 0) (H : post 1 ()) : wL_lawOf_534 post mc ms x2 x3 (md_cl x2) (md_cl x3) kc ks q a1 a2 a3 a4 a5 a6 a7 a8 a9 a10 a11 := by
  have ha := md_cl_in x2
  have hb := md_cl_in x3
  unfold wL_lawOf_534
  refine md_weight (e := 5) (by decide) (md_weight (e := 6) (by decide) (nm_e ?_))
  have h3' : ∀ j, j < 8 → upd (upd a3 5 (md_cl x2)) 6 (md_cl x3) j = md_w (md_cl x2) (md_cl x3) j := by
    intro j hj
    unfold md_w
    by_cases z6 : j = 6
    · rw [z6, pk_us]
      rfl
    · rw [pk_un z6]
      by_cases z5 : j = 5
      · rw [z5, pk_us]
        rfl
      · rw [pk_un z5, if_neg z5, if_neg z6]
        exact h3 j hj
  refine br_c (fun y => br_c (fun w => ?_) (fun w => ?_)) (fun y => br_c (fun w => ?_) (fun w => ?_))
  · exact md_L596 hf h1 h3' (md_best ha hb (.inr (.inl ⟨rfl, y, w⟩))) H
  · exact md_L596 hf h1 h3' (md_best ha hb (.inl ⟨rfl, y, w⟩)) H
  · exact md_L596 hf h1 h3' (md_best ha hb (.inr (.inr (.inl ⟨rfl, y, w⟩)))) H
  · exact md_L596 hf h1 h3' (md_best ha hb (.inr (.inr (.inr ⟨rfl, y, w⟩)))) H
theorem md_L481 {post : Int32 → St0 → Prop} {mc ms kc ks : Nat} {q x2 x3 : Int32} {f : Nat} (hf : f < 4) (h1 : md_M 8 32 (md_V f) a1) {z0 z1 : Int32} (h3 : ∀ j, j < 8 → a3 j = 0) (hz : z1 = z0) (H : post 1 ()) : wL_lawOf_481 post mc ms x2 x3 z0 z1 kc ks q a1 a2 a3 a4 a5 a6 a7 a8 a9 a10 a11 := by
  unfold wL_lawOf_481
  refine br_t hz ?_
  refine md_cl_br (P := fun z => wL_lawOf_509 post mc ms x2 x3 z kc ks q a1 a2 a3 a4 a5 a6 a7 a8 a9 a10 a11) ?_
  unfold wL_lawOf_509
  refine md_cl_br (P := fun z => wL_lawOf_534 post mc ms x2 x3 (md_cl x2) z kc ks q a1 a2 a3 a4 a5 a6 a7 a8 a9 a10 a11) ?_
  exact md_L534 hf h1 h3 H
theorem md_L413 {post : Int32 → St0 → Prop} {mc ms kc ks : Nat} {q x1 x2 x3 : Int32} {f : Nat} (hf : f < 4) (h1 : md_M 8 32 (md_V f) a1) {c : Nat} (hc : c < 8) (hx : x1 &&& 7 = nI c) (h3 : ∀ j, j < 8 → a3 j = 0) (H : post 1 ()) :
    ∀ n i a2, i + n = 5 → (∀ j, j < i → a2 j = nI 0) → wL_lawOf_413 post mc ms x1 x2 x3 kc ks (n + 1) (nI i) q a1 a2 a3 a4 a5 a6 a7 a8 a9 a10 a11 := by
  intro n
  induction n with
  | zero =>
    intro i a2 hi h2
    refine pk_le 5 i (fun _ => ?_) (fun z => absurd z (by omega))
    refine md_colour (e := 5) (by decide) hx ?_
    refine md_colour (e := 6) (c := 2) (by decide) (by decide) ?_
    refine md_colour (e := 7) (c := 2) (by decide) (by decide) ?_
    refine md_rainbow hf h1 (K := md_k1 c) (X := md_rv c) ?_ (md_rb1 f hf c hc) (fun q' b4 b5 b6 b7 b8 => ?_)
    · intro j hj
      unfold md_k1
      by_cases z7 : j = 7
      · rw [z7, pk_us]
        exact ⟨(by decide : 2 < 8), rfl⟩
      · rw [pk_un z7]
        by_cases z6 : j = 6
        · rw [z6, pk_us]
          exact ⟨(by decide : 2 < 8), rfl⟩
        · rw [pk_un z6]
          by_cases z5 : j = 5
          · rw [z5, pk_us]
            exact ⟨hc, rfl⟩
          · rw [pk_un z5, if_pos (by omega)]
            exact ⟨by decide, h2 j (by omega)⟩
    · rw [hx]
      refine pk_eq c 0 (fun z => ?_) (fun z => pk_eq c 2 (fun y => ?_) (fun y => ?_))
      · unfold wL_lawOf_476
        refine md_L481 hf h1 h3 ?_ H
        rw [show md_rv c = 2 from if_pos z]
        rfl
      · unfold wL_lawOf_476
        refine md_L481 hf h1 h3 ?_ H
        unfold md_rv
        rw [if_neg z, if_pos y]
        rfl
      · refine md_L481 hf h1 h3 ?_ H
        unfold md_rv
        rw [if_neg z, if_neg y]
        rfl
  | succ n ih =>
    intro i a2 hi h2
    refine pk_le 5 i (fun z => absurd z (by omega)) (fun _ => ?_)
    refine md_colour (e := i) (c := 0) (by omega) (by decide) (nm_r (nI_1 i) (ih (i + 1) _ (by omega) ?_))
    intro j hj
    by_cases z : j = i
    · rw [z, pk_us]
    · rw [pk_un z]
      exact h2 j (by omega)
theorem md_L393 {post : Int32 → St0 → Prop} {mc ms kc ks : Nat} {q x1 x2 x3 : Int32} {f : Nat} (hf : f < 4) (h1 : md_M 8 32 (md_V f) a1) {c : Nat} {z0 z1 z2 : Int32} (hc : c < 8) (hx : x1 &&& 7 = nI c) (h2 : md_M 8 8 md_k0 a2) (h3 : ∀ j, j < 8 → a3 j = 0) (hz : z2 = z1 ||| z0) (H : post 1 ()) : wL_lawOf_393 post mc ms x1 x2 x3 z0 z1 z2 kc ks q a1 a2 a3 a4 a5 a6 a7 a8 a9 a10 a11 := by
  unfold wL_lawOf_393
  refine br_t hz ?_
  refine md_rainbow hf h1 h2 (md_rb0 f hf) (fun q' b4 b5 b6 b7 b8 => ?_)
  exact br_t rfl ⟨6, md_L413 hf h1 hc hx h3 H 5 0 a2 rfl (fun j hj => absurd hj (by omega))⟩
theorem md_L370 {post : Int32 → St0 → Prop} {mc ms kc ks : Nat} {q x1 x2 x3 : Int32} {f : Nat} (hf : f < 4) (h1 : md_M 8 32 (md_V f) a1) {c l : Nat} {x10 z0 : Int32} (hl : l < 32) (hc : c < 8) (hx : x1 &&& 7 = nI c) (h2 : md_M 8 8 md_k0 a2) (h3 : ∀ j, j < 8 → a3 j = 0) (hz : nI (md_cs f l 8 0 l) = x10 ||| (if z0 = 0 then 0 else 128)) (H : post 1 ()) : wL_lawOf_370 post mc ms x1 x2 x3 (nI l) x10 z0 kc ks q a1 a2 a3 a4 a5 a6 a7 a8 a9 a10 a11 := by
  unfold wL_lawOf_370
  refine md_closure hf (by omega) h1 (fun a4' => ?_)
  refine br_c (fun z => ?_) (fun z => ?_)
  · rw [if_pos z] at hz
    exact md_L393 hf h1 hc hx h2 h3 hz H
  · rw [if_neg z] at hz
    exact md_L393 hf h1 hc hx h2 h3 hz H
theorem md_L300 {post : Int32 → St0 → Prop} {mc ms kc ks : Nat} {q x1 x2 x3 : Int32} {f : Nat} (hf : f < 4) (h1 : md_M 8 32 (md_V f) a1) {c l : Nat} {z0 z1 : Int32} (hl : l < 32) (hc : c < 8) (hx : x1 &&& 7 = nI c) (h2 : md_M 8 8 md_k0 a2) (h3 : ∀ j, j < 8 → a3 j = 0) (hz : nI (md_cs f l 8 0 l) = (z1 ||| z0) ||| md_c3 f l) (H : post 1 ()) : wL_lawOf_300 post mc ms x1 x2 x3 (nI f) (nI l) z0 z1 kc ks q a1 a2 a3 a4 a5 a6 a7 a8 a9 a10 a11 := by
  unfold wL_lawOf_300
  unfold md_c3 at hz
  refine nm_e (pk_eq f 0 (fun z => br_c (fun y => ?_) (fun y => ?_)) (fun z => pk_eq f 1 (fun z1 => br_c (fun y => ?_) (fun y => ?_)) (fun z1 => pk_eq f 2 (fun z2 => br_c (fun y => ?_) (fun y => ?_)) (fun z2 => ?_))))
  · rw [if_pos z, if_pos y] at hz
    exact md_L370 hf h1 hl hc hx h2 h3 hz H
  · rw [if_pos z, if_neg y] at hz
    exact md_L370 hf h1 hl hc hx h2 h3 hz H
  · rw [if_neg z, if_pos z1, if_pos y] at hz
    exact md_L370 hf h1 hl hc hx h2 h3 hz H
  · rw [if_neg z, if_pos z1, if_neg y] at hz
    exact md_L370 hf h1 hl hc hx h2 h3 hz H
  · rw [if_neg z, if_neg z1, if_pos z2, if_pos y] at hz
    exact md_L370 hf h1 hl hc hx h2 h3 hz H
  · rw [if_neg z, if_neg z1, if_pos z2, if_neg y] at hz
    exact md_L370 hf h1 hl hc hx h2 h3 hz H
  · rw [if_neg z, if_neg z1, if_neg z2] at hz
    exact md_L370 hf h1 hl hc hx h2 h3 hz H
theorem md_L261 {post : Int32 → St0 → Prop} {mc ms kc ks : Nat} {q x1 x2 x3 : Int32} {f : Nat} (hf : f < 4) (h1 : md_M 8 32 (md_V f) a1) {c l : Nat} {z0 z1 z2 : Int32} (hl : l < 32) (hc : c < 8) (hx : x1 &&& 7 = nI c) (h2 : md_M 8 8 md_k0 a2) (h3 : ∀ j, j < 8 → a3 j = 0) (hz : z2 = z1 + z0) (H : post 1 ()) : wL_lawOf_261 post mc ms x1 x2 x3 (nI f) (nI l) z0 z1 z2 kc ks q a1 a2 a3 a4 a5 a6 a7 a8 a9 a10 a11 := by
  have hc' := md_closed f hf l hl
  unfold md_c1 md_c2 at hc'
  unfold wL_lawOf_261
  refine br_t hz (br_c (fun y => ?_) (fun y => ?_))
  · unfold wL_lawOf_283
    rw [if_pos y] at hc'
    refine br_c (fun w => ?_) (fun w => ?_)
    · rw [if_pos w] at hc'
      exact md_L300 hf h1 hl hc hx h2 h3 hc' H
    · rw [if_neg w] at hc'
      exact md_L300 hf h1 hl hc hx h2 h3 hc' H
  · unfold wL_lawOf_283
    rw [if_neg y] at hc'
    refine br_c (fun w => ?_) (fun w => ?_)
    · rw [if_pos w] at hc'
      exact md_L300 hf h1 hl hc hx h2 h3 hc' H
    · rw [if_neg w] at hc'
      exact md_L300 hf h1 hl hc hx h2 h3 hc' H
theorem md_L200 {post : Int32 → St0 → Prop} {mc ms kc ks : Nat} {q x1 x2 x3 : Int32} {f : Nat} (hf : f < 4) (h1 : md_M 8 32 (md_V f) a1) {c l : Nat} (hl : l < 32) (hc : c < 8) (hx : x1 &&& 7 = nI c) (h2 : md_M 8 8 md_k0 a2) (h3 : ∀ j, j < 8 → a3 j = 0) (H : post 1 ()) :
    ∀ n i r, i + n = 5 → md_sz l n i r = md_T f l → wL_lawOf_200 post mc ms x1 x2 x3 (nI f) (nI l) kc ks q a1 a2 a3 a4 a5 a6 a7 a8 a9 a10 a11 (n + 1) (nI r) (nI i) := by
  obtain ⟨r1, r2⟩ := md_ranks f hf l hl
  intro n
  induction n with
  | zero =>
    intro i r hi h
    have h' : r = md_T f l := h
    refine pk_le 5 i (fun _ => ?_) (fun z => absurd z (by omega))
    refine md_rank hf (by omega) h1 (fun b4 => ?_)
    refine br_t (by rw [h']) ?_
    rw [show nI l ||| (32 : Int32) = nI (l ||| 32) from md_or l 32]
    refine md_rank hf (Nat.or_lt_two_pow (n := 8) (show l < 256 by omega) (by decide)) h1 (fun g4 => ?_)
    rw [r2, h']
    unfold md_n1
    refine br_c (fun y => ?_) (fun y => ?_)
    · rw [if_pos y]
      exact md_L261 hf h1 hl hc hx h2 h3 rfl H
    · rw [if_neg y]
      exact md_L261 hf h1 hl hc hx h2 h3 rfl H
  | succ n ih =>
    intro i r hi h
    refine pk_le 5 i (fun z => absurd z (by omega)) (fun _ => ?_)
    rw [md_lowbit l hl i (by omega)]
    exact nm_r (nI_add _ _) (nm_r (nI_1 i) (ih (i + 1) _ (by omega) h))
theorem md_L128 {post : Int32 → St0 → Prop} {mc ms kc ks : Nat} {q x1 x2 x3 : Int32} {f : Nat} (hf : f < 4) (h1 : md_M 8 32 (md_V f) a1) {x4 z0 : Int32} (hz : z0 = nI (md_bs f)) (h2 : md_M 8 8 md_k0 a2) (h3 : ∀ j, j < 8 → a3 j = 0) (H : post 1 ()) : wL_lawOf_128 post mc ms x1 x2 x3 x4 (nI f) z0 kc ks q a1 a2 a3 a4 a5 a6 a7 a8 a9 a10 a11 := by
  subst hz
  obtain ⟨c, hc, hx⟩ := pk_andE x1 (m := 7) 3 (by decide)
  obtain ⟨l, hl, hy⟩ := pk_andE x4 (m := 31) 5 (by decide)
  have go : ∀ q a4 a5 a6 a7 a8 a9 a10 a11 z, z = nI (md_uv f) → wL_lawOf_182 post mc ms x1 x2 x3 x4 (nI f) z (nI (md_uv f)) kc ks q a1 a2 a3 a4 a5 a6 a7 a8 a9 a10 a11 := by
    intro q a4 a5 a6 a7 a8 a9 a10 a11 z hz
    unfold wL_lawOf_182
    exact br_t hz.symm (nm_r hy ⟨6, md_L200 hf h1 hl hc hx h2 h3 H 5 0 0 rfl (md_ranks f hf l hl).1⟩)
  unfold wL_lawOf_128
  refine md_rank (m := 255) hf (by decide) h1 (fun b4 => ?_)
  refine br_t (by rw [md_r255 f hf]; rfl) ?_
  refine md_bases hf h1 (fun c4 c9 c10 c11 => br_t rfl ?_)
  refine md_polynomial hf h1 (fun d4 d9 d10 d11 => br_t rfl ?_)
  refine md_union hf h1 (fun q' e4 e5 e6 e7 e8 => ?_)
  refine pk_eq f 3 (fun z => go _ _ _ _ _ _ _ _ _ _ ?_) (fun z => go _ _ _ _ _ _ _ _ _ _ ?_)
  · rw [show md_uv f = 7 from if_pos z]
    rfl
  · rw [show md_uv f = 8 from if_neg z]
    rfl
theorem md_L91 {post : Int32 → St0 → Prop} {mc ms kc ks : Nat} {q x1 x2 x3 x4 z0 : Int32} {f : Nat} (hf : f < 4) (h1 : ∀ j, j < 7 → a1 j = nI (md_V f j)) (hz : z0 = nI (md_V f 7)) (h2 : md_M 8 8 md_k0 a2) (h3 : ∀ j, j < 8 → a3 j = 0) (H : post 1 ()) : wL_lawOf_91 post mc ms x1 x2 x3 x4 (nI f) z0 7 kc ks q a1 a2 a3 a4 a5 a6 a7 a8 a9 a10 a11 := by
  subst hz
  unfold wL_lawOf_91
  refine md_vector (e := 7) (by decide) (md_V_lt f 7) ?_
  have h1' : md_M 8 32 (md_V f) (upd a1 7 (nI (md_V f 7))) := by
    intro j hj
    refine ⟨md_V_lt f j, ?_⟩
    by_cases z : j = 7
    · rw [z, pk_us]
    · rw [pk_un z]
      exact h1 j (by omega)
  refine pk_eq f 0 (fun z => md_L128 hf h1' ?_ h2 h3 H) (fun z => pk_eq f 1 (fun y => md_L128 hf h1' ?_ h2 h3 H) (fun y => pk_eq f 2 (fun w => md_L128 hf h1' ?_ h2 h3 H) (fun w => md_L128 hf h1' ?_ h2 h3 H)))
  · unfold md_bs
    rw [if_pos z]
    rfl
  · unfold md_bs
    rw [if_neg z, if_pos y]
    rfl
  · unfold md_bs
    rw [if_neg z, if_neg y, if_pos w]
    rfl
  · unfold md_bs
    rw [if_neg z, if_neg y, if_neg w]
    rfl
theorem md_L12 {post : Int32 → St0 → Prop} {mc ms kc ks : Nat} {q x0 x1 x2 x3 x4 : Int32} (h2 : md_M 8 8 md_k0 a2) (h3 : ∀ j, j < 8 → a3 j = 0) (H : post 1 ()) :
    ∀ n i a1, i + n = 5 → (∀ j, j < i → a1 j = nI (2 ^ j)) → wL_lawOf_12 post mc ms x0 x1 x2 x3 x4 kc ks (n + 1) (nI i) q a1 a2 a3 a4 a5 a6 a7 a8 a9 a10 a11 := by
  intro n
  induction n with
  | zero =>
    intro i a1 hi h
    obtain ⟨f, hf, hx⟩ := pk_andE x0 (m := 3) 2 (by decide)
    obtain ⟨v0, v5, v6, v7⟩ := md_Vs f hf
    refine pk_le 5 i (fun _ => nm_r hx ?_) (fun z => absurd z (by omega))
    refine md_vector (e := 5) (v := 3) (by decide) (by decide) ?_
    refine md_vector (e := 6) (v := 7) (by decide) (by decide) ?_
    have h1' : ∀ j, j < 7 → upd (upd a1 5 (nI 3)) 6 (nI 7) j = nI (md_V f j) := by
      intro j hj
      by_cases z6 : j = 6
      · rw [z6, pk_us, v6]
      · rw [pk_un z6]
        by_cases z5 : j = 5
        · rw [z5, pk_us, v5]
        · rw [pk_un z5, v0 j (by omega)]
          exact h j (by omega)
    refine pk_eq f 0 (fun z => md_L91 hf h1' ?_ h2 h3 H) (fun z => pk_eq f 1 (fun y => md_L91 hf h1' ?_ h2 h3 H) (fun y => pk_eq f 2 (fun w => md_L91 hf h1' ?_ h2 h3 H) (fun w => md_L91 hf h1' ?_ h2 h3 H)))
    · rw [v7, if_pos z]
      rfl
    · rw [v7, if_neg z, if_pos y]
      rfl
    · rw [v7, if_neg z, if_neg y, if_pos w]
      rfl
    · rw [v7, if_neg z, if_neg y, if_neg w]
      rfl
  | succ n ih =>
    intro i a1 hi h
    obtain ⟨p1, p2⟩ := md_p2 i (by omega)
    refine pk_le 5 i (fun z => absurd z (by omega)) (fun _ => ?_)
    rw [p1]
    refine md_vector (by omega) p2 (nm_r (nI_1 i) (ih (i + 1) _ (by omega) ?_))
    intro j hj
    by_cases z : j = i
    · rw [z, pk_us]
    · rw [pk_un z]
      exact h j (by omega)
theorem md_lawOf {post : Int32 → St0 → Prop} {x0 x1 x2 x3 x4 : Int32} (H : post 1 ()) : wpL_lawOf post 12 109 () x0 x1 x2 x3 x4 := by
  unfold wpL_lawOf
  refine ⟨by decide, by decide, 11, 97, by decide, by decide, ?_⟩
  refine md_init (fun a1 a2 a3 a4 a5 a6 a7 a8 a9 a10 a11 h2 h3 => ?_)
  exact ⟨6, md_L12 h2 h3 H 5 0 a1 rfl (fun j hj => absurd hj (by omega))⟩
end
theorem md_cell {post : Int32 → Prop} {L : Nat} {xs : Nat → Int32} {j : Nat} {x : Int32} (hL : L ≤ 5) (hj : j < 5) (hx : x = nI j) (H : ∀ r, post r) : wpL_cellAt post L xs () x := by
  subst hx
  unfold wpL_cellAt
  exact pk_le L j (fun _ => H _) (fun z => ⟨pk_in j L z, H _⟩)
theorem i_vc (xs : Nat → Int32) (L : Nat) (hL : L ≤ 5) : wpL_law (fun r => r = 1) L xs := by
  unfold wpL_law
  refine md_cell (j := 0) hL (by decide) rfl (fun r1 => ?_)
  refine md_cell (j := 1) hL (by decide) rfl (fun r2 => ?_)
  refine md_cell (j := 2) hL (by decide) rfl (fun r3 => ?_)
  refine md_cell (j := 3) hL (by decide) rfl (fun r4 => ?_)
  refine md_cell (j := 4) hL (by decide) rfl (fun r5 => ?_)
  exact ⟨12, 109, by decide, by decide, md_lawOf rfl⟩
end
