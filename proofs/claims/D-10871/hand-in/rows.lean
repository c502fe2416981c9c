section
/-! the pure picture: edges as tuples, a cone as a list of edges; every number is an Int64 as the program has it, so nothing is said of overflow -/
abbrev ce_Ed : Type := Int64 × Int64 × Int64 × Int64 × Int32
/-- an edge's number i -/
def ce_c (e : ce_Ed) (i : Nat) : Int64 := match i with
  | 0 => e.1
  | 1 => e.2.1
  | 2 => e.2.2.1
  | _ => e.2.2.2.1
/-- what is tight on an edge -/
def ce_t (e : ce_Ed) : Int32 := e.2.2.2.2
def ce_d : ce_Ed := (0, 0, 0, 0, 0)
def ce_nb (x : Int32) : Int32 := x.toInt8.toInt32
def ce_sum (e : ce_Ed) : Int64 := (ce_c e 0 + ce_c e 1) + ce_c e 2
/-- the slack of an edge at choice o, after i of its three terms -/
def ce_sp (L : Nat → Int64) (o : Nat) (e : ce_Ed) : Nat → Int64
  | 0 => ce_c e 3
  | i + 1 => ce_sp L o e i - ce_c e i * L (3 * i + o)
def ce_sl (L : Nat → Int64) (o : Nat) (e : ce_Ed) : Int64 := ce_sp L o e 3
/-- Euclid's loop -/
def ce_g : Nat → Int64 → Int64 → Option Int64
  | 0, _, _ => none
  | n + 1, x, y => if y = 0 then some x else ce_g n y (x - x / y * y)
def ce_ab (x : Int64) : Int64 := if 0 ≤ x then x else -x
def ce_cd (x y : Int64) : Option Int64 := ce_g 9 (ce_ab x) (ce_ab y)
def ce_dv (x : Nat → Int64) : Nat → Option Int64
  | 0 => some 0
  | i + 1 => match ce_dv x i with
    | none => none
    | some d => ce_cd d (x i)
def ce_cx (p q : ce_Ed) (sk sl : Int64) (i : Nat) : Int64 := ce_c p i * (-sl) + ce_c q i * sk
def ce_cross (p q : ce_Ed) (sk sl : Int64) (bo : Int32) : Option ce_Ed := match ce_dv (ce_cx p q sk sl) 4 with
  | none => none
  | some d => if d = 0 then none else some (ce_cx p q sk sl 0 / d, ce_cx p q sk sl 1 / d, ce_cx p q sk sl 2 / d, ce_cx p q sk sl 3 / d, ce_nb ((ce_t p &&& ce_t q) ||| bo))
/-- the same numbers, other tight bits -/
def ce_tt (e : ce_Ed) (t : Int32) : ce_Ed := (e.1, e.2.1, e.2.2.1, e.2.2.2.1, t)
def ce_kp (L : Nat → Int64) (o : Nat) (bo : Int32) : List ce_Ed → List ce_Ed → Option (List ce_Ed)
  | [], M => some M
  | e :: r, M => if ce_sl L o e < 0 then ce_kp L o bo r M
    else if M.length < 24 then ce_kp L o bo r (M ++ [ce_tt e (ce_nb (ce_t e ||| (if ce_sl L o e = 0 then bo else 0)))])
    else none
def ce_nr (com : Int32) (k l : Nat) : List ce_Ed → Nat → Bool
  | [], _ => true
  | e :: r, m => if m = k then ce_nr com k l r (m + 1) else if m = l then ce_nr com k l r (m + 1)
    else if ce_t e &&& com = com then false else ce_nr com k l r (m + 1)
def ce_cl (L : Nat → Int64) (o : Nat) (bo : Int32) (E : List ce_Ed) (p : ce_Ed) (k : Nat) : List ce_Ed → Nat → List ce_Ed → Option (List ce_Ed)
  | [], _, M => some M
  | q :: r, l, M => if ce_sl L o p ≤ 0 then ce_cl L o bo E p k r (l + 1) M
    else if 0 ≤ ce_sl L o q then ce_cl L o bo E p k r (l + 1) M
    else if ce_nr (ce_t p &&& ce_t q) k l E 0 = false then ce_cl L o bo E p k r (l + 1) M
    else if M.length < 24 then match ce_cross p q (ce_sl L o p) (ce_sl L o q) bo with
      | none => none
      | some e => ce_cl L o bo E p k r (l + 1) (M ++ [e])
    else none
def ce_ck (L : Nat → Int64) (o : Nat) (bo : Int32) (E : List ce_Ed) : List ce_Ed → Nat → List ce_Ed → Option (List ce_Ed)
  | [], _, M => some M
  | p :: r, k, M => match ce_cl L o bo E p k E 0 M with
    | none => none
    | some M' => ce_ck L o bo E r (k + 1) M'
def ce_bo (o : Nat) : Int32 := (8 : Int32) <<< (nI o &&& 31)
/-- one more choice of the other side -/
def ce_ac (L : Nat → Int64) (o : Nat) (E : List ce_Ed) : Option (List ce_Ed) := match ce_kp L o (ce_bo o) E [] with
  | none => none
  | some M => ce_ck L o (ce_bo o) E E 0 M
def ce_ie (own : Int32) (L : Nat → Int64) (c : Nat) : ce_Ed := (if c = 0 then 1 else 0, if c = 1 then 1 else 0, if c = 2 then 1 else 0, L (3 * c + 0), ce_nb ((own &&& (((1 : Int32) <<< (nI c &&& 31)) ^^^ (-1))) ||| ((8 : Int32) <<< ((0 : Int32) &&& 31))))
def ce_ini (own : Int32) (L : Nat → Int64) : List Nat → List ce_Ed → List ce_Ed
  | [], E => E
  | c :: r, E => if (own >>> (nI c &&& 31)) &&& 1 = 0 then ce_ini own L r E else ce_ini own L r (E ++ [ce_ie own L c])
def ce_chs (other : Int32) (L : Nat → Int64) : List Nat → List ce_Ed → Option (List ce_Ed)
  | [], E => some E
  | o :: r, E => if (other >>> (nI o &&& 31)) &&& 1 = 0 then ce_chs other L r E else match ce_ac L o E with
    | none => none
    | some E' => ce_chs other L r E'
def ce_dl : List ce_Ed → List ce_Ed → List ce_Ed
  | [], K => K
  | e :: r, K => if ce_sum e = 0 then ce_dl r K else ce_dl r (K ++ [e])
def ce_mc (own other : Int32) (L : Nat → Int64) : Option (List ce_Ed) := match ce_chs other L [1, 2] (ce_ini own L [0, 1, 2] [] ++ [(0, 0, 0, 1, ce_nb own)]) with
  | none => none
  | some E => some (ce_dl E [])
/-- the best edge -/
def ce_fs : List ce_Ed → ce_Ed → ce_Ed
  | [], b => b
  | e :: r, b => if ce_c b 3 * ce_sum e ≤ ce_c e 3 * ce_sum b then ce_fs r b else ce_fs r e
def ce_sure : List ce_Ed → Option (Int64 × Int64)
  | [] => none
  | e :: r => match ce_cd (10 * ce_sum (ce_fs r e) - ce_c (ce_fs r e) 3) (ce_sum (ce_fs r e)) with
    | none => none
    | some d => if d = 0 then none else some ((10 * ce_sum (ce_fs r e) - ce_c (ce_fs r e) 3) / d, ce_sum (ce_fs r e) / d)
def ce_or : List ce_Ed → Int32 → Int32
  | [], x => x
  | e :: r, x => ce_or r (x ||| ce_t e)
def ce_rep (other : Int32) (E : List ce_Ed) : Int32 := (ce_or E 0 >>> ((3 : Int32) &&& 31)) &&& other
/-- the losses: ten, but u at place p -/
def ce_L (p u : Nat) (j : Nat) : Int64 := if j = p then lN u else lN 10
/-- the set of the first n choices -/
def ce_set (n : Nat) : Int32 := ((1 : Int32) <<< (nI n &&& 31)) - 1
/-- what the law says of sureTop: v, the mine's and the others' choices -/
def ce_lawS (v mine others : Int32) : Int32 := if v ≤ 0 then (if 0 ≤ v then 0 else if mine = 1 then v else 0) else if others = 1 then v else if 0 ≤ v then 0 else if mine = 1 then v else 0
def ce_lawR (v mine others own : Int32) : Int32 := if 1 < others then ((1 : Int32) <<< (mine &&& 31)) - 1 else if v = 0 then ((1 : Int32) <<< (mine &&& 31)) - 1 else if mine = 1 then ((1 : Int32) <<< (mine &&& 31)) - 1 else if v ≤ 0 then (((1 : Int32) <<< (mine &&& 31)) - 1) &&& (own ^^^ (-1)) else own
def ce_ok1 (m n c o u : Nat) : Bool := match ce_mc (ce_set m) (ce_set n) (ce_L (3 * c + o) u) with
  | none => false
  | some E => (match ce_sure E with
    | none => false
    | some x => decide (x.1.toInt32 = ce_lawS (10 - nI u) (nI m) (nI n)) && decide (x.2.toInt32 = 1)) && decide (ce_rep (ce_set n) E = ce_lawR (nI u - 10) (nI n) (nI m) ((1 : Int32) <<< (nI o &&& 31)))
def ce_ok2 (m n : Nat) : Bool := (List.range m).all (fun c => (List.range n).all (fun o => (List.range 19).all (fun u => ce_ok1 m n c o (u + 1))))
end
section
theorem ce_t11 : ce_ok2 1 1 = true := by decide +kernel
theorem ce_t12 : ce_ok2 1 2 = true := by decide +kernel
theorem ce_t13 : ce_ok2 1 3 = true := by decide +kernel
theorem ce_t21 : ce_ok2 2 1 = true := by decide +kernel
theorem ce_t22 : ce_ok2 2 2 = true := by decide +kernel
theorem ce_t23 : ce_ok2 2 3 = true := by decide +kernel
theorem ce_t31 : ce_ok2 3 1 = true := by decide +kernel
theorem ce_t32 : ce_ok2 3 2 = true := by decide +kernel
theorem ce_t33 : ce_ok2 3 3 = true := by decide +kernel
end
section
/-! the walk, leaf methods: exact posts -/
theorem ce_x4 (e i : Nat) : (4 : Int32) * nI e + nI i = nI (4 * e + i) := by
  rw [show (4 : Int32) = nI 4 from rfl, pk_mul, nI_add]
theorem ce_x40 (e : Nat) : (4 : Int32) * nI e = nI (4 * e) := by
  rw [show (4 : Int32) = nI 4 from rfl, pk_mul]
theorem ce_x41 (e : Nat) : (4 : Int32) * nI e + 1 = nI (4 * e + 1) := ce_x4 e 1
theorem ce_x42 (e : Nat) : (4 : Int32) * nI e + 2 = nI (4 * e + 2) := ce_x4 e 2
theorem ce_x43 (e : Nat) : (4 : Int32) * nI e + 3 = nI (4 * e + 3) := ce_x4 e 3
theorem ce_x4b (b k i : Nat) : (4 : Int32) * (nI b + nI k) + nI i = nI (4 * (b + k) + i) := by
  rw [nI_add, ce_x4]
theorem ce_x3 (c o : Nat) : (3 : Int32) * nI c + nI o = nI (3 * c + o) := by
  rw [show (3 : Int32) = nI 3 from rfl, pk_mul, nI_add]
theorem ce_x24 (s : Nat) : (24 : Int32) * nI s = nI (24 * s) := by
  rw [show (24 : Int32) = nI 24 from rfl, pk_mul]
/-- n places from p on hold f -/
def ce_w (a : Nat → Int64) (p n : Nat) (f : Nat → Int64) : Nat → Int64 := fun j => if p ≤ j ∧ j < p + n then f (j - p) else a j
theorem ce_w0 {a : Nat → Int64} {p : Nat} {f : Nat → Int64} : ce_w a p 0 f = a := by
  funext j
  unfold ce_w
  rw [if_neg (by omega)]
theorem ce_wi {a : Nat → Int64} {p n i : Nat} {f : Nat → Int64} (h : i < n) : ce_w a p n f (p + i) = f i := by
  unfold ce_w
  rw [if_pos (by omega), Nat.add_sub_cancel_left]
theorem ce_wo {a : Nat → Int64} {p n j : Nat} {f : Nat → Int64} (h : j < p ∨ p + n ≤ j) : ce_w a p n f j = a j := by
  unfold ce_w
  rw [if_neg (by omega)]
theorem ce_ws {a : Nat → Int64} {p i : Nat} {f : Nat → Int64} {x : Int64} (hx : x = f i) : vp_updL (ce_w a p i f) (p + i) x = ce_w a p (i + 1) f := by
  funext j
  by_cases e : j = p + i
  · rw [e, pk_uLs, ce_wi (by omega), hx]
  · rw [pk_uLn e]
    by_cases c : p ≤ j ∧ j < p + i
    · obtain ⟨t, rfl⟩ : ∃ t, j = p + t := ⟨j - p, by omega⟩
      rw [ce_wi (by omega), ce_wi (by omega)]
    · rw [ce_wo (by omega), ce_wo (by omega)]
theorem ce_ww {a : Nat → Int64} {p n : Nat} {f g : Nat → Int64} : ce_w (ce_w a p n f) p n g = ce_w a p n g := by
  funext j
  by_cases c : p ≤ j ∧ j < p + n
  · obtain ⟨t, rfl⟩ : ∃ t, j = p + t := ⟨j - p, by omega⟩
    rw [ce_wi (by omega), ce_wi (by omega)]
  · rw [ce_wo (by omega), ce_wo (by omega), ce_wo (by omega)]
theorem ce_uu {a : Nat → Int64} {k : Nat} {x y : Int64} : vp_updL (vp_updL a k x) k y = vp_updL a k y := by
  funext j
  by_cases e : j = k
  · rw [e, pk_uLs, pk_uLs]
  · rw [pk_uLn e, pk_uLn e, pk_uLn e]
theorem ce_drop {E : List ce_Ed} {i : Nat} (h : i < E.length) : E.drop i = E.getD i ce_d :: E.drop (i + 1) := by
  rw [List.drop_eq_getElem_cons h]
  simp [List.getD_eq_getElem?_getD, List.getElem?_eq_getElem h]
theorem ce_getl {E : List ce_Ed} {e : ce_Ed} : (E ++ [e]).getD E.length ce_d = e := by
  simp [List.getD_eq_getElem?_getD]
theorem ce_getk {E : List ce_Ed} {e : ce_Ed} {k : Nat} (h : k < E.length) : (E ++ [e]).getD k ce_d = E.getD k ce_d := by
  rw [List.getD_eq_getElem?_getD, List.getElem?_append_left h, ← List.getD_eq_getElem?_getD]
/-- the places from b on hold the edges E -/
def ce_at (f : Nat → Int64) (g : Nat → Int32) (b : Nat) (E : List ce_Ed) : Prop := ∀ k, k < E.length → (∀ i, i < 4 → f (4 * (b + k) + i) = ce_c (E.getD k ce_d) i) ∧ g (b + k) = ce_t (E.getD k ce_d) ∧ vp_nar .byte (ce_t (E.getD k ce_d)) = ce_t (E.getD k ce_d)
theorem ce_at0 {f : Nat → Int64} {g : Nat → Int32} {b : Nat} : ce_at f g b [] := fun k hk => absurd hk (Nat.not_lt_zero k)
theorem ce_push {f f' : Nat → Int64} {g g' : Nat → Int32} {b : Nat} {E : List ce_Ed} {e : ce_Ed} (h : ce_at f g b E) (hf : ∀ j, j < 4 * (b + E.length) → f' j = f j) (hg : ∀ j, j < b + E.length → g' j = g j)
    (hn : ∀ i, i < 4 → f' (4 * (b + E.length) + i) = ce_c e i) (ht : g' (b + E.length) = ce_t e) (hb : vp_nar .byte (ce_t e) = ce_t e) : ce_at f' g' b (E ++ [e]) := by
  intro k hk
  rw [List.length_append, List.length_singleton] at hk
  by_cases c : k = E.length
  · subst c
    rw [ce_getl]
    exact ⟨hn, ht, hb⟩
  · have hk' : k < E.length := by omega
    obtain ⟨h1, h2, h3⟩ := h k hk'
    rw [ce_getk hk']
    exact ⟨fun i hi => by rw [hf _ (by omega)]; exact h1 i hi, by rw [hg _ (by omega)]; exact h2, h3⟩
theorem ce_nbn (x : Int32) : vp_nar .byte (ce_nb x) = ce_nb x := pk_vb x
theorem ce_dvs {x : Nat → Int64} {i : Nat} {d : Int64} (h : ce_dv x (i + 1) = some d) : ∃ d', ce_dv x i = some d' ∧ ce_cd d' (x i) = some d := by
  rw [ce_dv] at h
  cases e : ce_dv x i with
  | none => rw [e] at h; simp at h
  | some d' => rw [e] at h; exact ⟨d', rfl, h⟩
theorem ce_dvl {x : Nat → Int64} {d : Int64} {n : Nat} (h : ce_dv x n = some d) : ∀ i, i ≤ n → ∃ d', ce_dv x i = some d' := by
  induction n generalizing d with
  | zero => intro i hi; exact ⟨d, by rw [show i = 0 by omega]; exact h⟩
  | succ n ih =>
    intro i hi
    obtain ⟨d', h1, _⟩ := ce_dvs h
    by_cases e : i = n + 1
    · exact ⟨d, by rw [e]; exact h⟩
    · exact ih h1 i (by omega)
section
variable {rs cs mk os ts li lc : Int32} {ft fb : Int64} {a1 a2 : Nat → Int32} {a3 : Nat → Int64} {a4 : Nat → Int32} {a5 : Nat → Int64} {a6 : Nat → Int32} {a7 : Nat → Int64} {a8 a9 a10 : Nat → Int32}
theorem ce_w28 {post : Int64 → Prop} {d : Int64} (hp : post d) : ∀ (n : Nat) (x y : Int64), ce_g n x y = some d → wX_commonDivisor_28 post rs cs mk os ts li lc ft fb a1 a2 a3 a4 a5 a6 a7 a8 a9 a10 n x y := by
  intro n
  induction n with
  | zero => intro x y h; rw [ce_g] at h; simp at h
  | succ n ih =>
    intro x y h
    by_cases e : y = 0
    · rw [ce_g, if_pos e] at h
      have hx : x = d := Option.some.inj h
      subst hx
      exact br_t e hp
    · rw [ce_g, if_neg e] at h
      exact br_f e ⟨e, nm_e (ih _ _ h)⟩
theorem ce_cdw {post : Int64 → Prop} {x y d : Int64} (h : ce_cd x y = some d) (hp : post d) : wpX_commonDivisor post (rs, cs, mk, os, ts, li, lc, ft, fb, a1, a2, a3, a4, a5, a6, a7, a8, a9, a10) x y := by
  have key : ∀ z w : Int64, ce_g 9 z (ce_ab w) = some d → wX_commonDivisor_12 post w z rs cs mk os ts li lc ft fb a1 a2 a3 a4 a5 a6 a7 a8 a9 a10 := by
    intro z w hz
    unfold ce_ab at hz
    by_cases e : 0 ≤ w
    · rw [if_pos e] at hz
      exact br_t e ⟨9, ce_w28 hp 9 _ _ hz⟩
    · rw [if_neg e] at hz
      exact br_f e (nm_e ⟨9, ce_w28 hp 9 _ _ hz⟩)
  unfold ce_cd at h
  by_cases e : 0 ≤ x
  · rw [show ce_ab x = x from if_pos e] at h
    exact br_t e (key _ _ h)
  · rw [show ce_ab x = -x from if_neg e] at h
    exact br_f e (key _ _ h)
theorem ce_keep {post : St2 → Prop} {e m : Nat} {more : Int32} (he : e < 48) (hm : m < 24)
    (hp : post (rs, cs, nI (m + 1), os, ts, li, lc, ft, fb, a1, a2, a3, a4, ce_w a5 (4 * m) 4 (fun i => a3 (4 * e + i)), upd a6 m (ce_nb (a4 e ||| more)), a7, a8, a9, a10)) :
    wpX_keepEdge post (rs, cs, nI m, os, ts, li, lc, ft, fb, a1, a2, a3, a4, a5, a6, a7, a8, a9, a10) (nI e) more := by
  refine pk_loop (fun n i x => wX_keepEdge_2 post (nI e) more rs cs (nI m) os ts li lc ft fb n (nI i) a1 a2 a3 a4 x a6 a7 a8 a9 a10) (fun i x => x = ce_w a5 (4 * m) i (fun i => a3 (4 * e + i))) 4 0 a5 (by omega) ce_w0.symm ?_ ?_
  · intro n x h
    obtain rfl : x = ce_w a5 (4 * m) 4 (fun i => a3 (4 * e + i)) := h
    refine pk_le 4 4 (fun _ => ⟨pk_in e 48 he, pk_in m 24 hm, nm_e (nm_e ?_)⟩) (fun z => absurd z (by omega))
    rw [nI_clamp (show e < 2 ^ 31 by omega), nI_clamp (show m < 2 ^ 31 by omega), nI_1]
    exact hp
  · intro n i x hi h hw
    obtain rfl : x = ce_w a5 (4 * m) i (fun i => a3 (4 * e + i)) := h
    refine pk_le 4 i (fun z => absurd z (by omega)) (fun _ => ⟨pk_in (4 * e + i) 192 (by omega) (ce_x4 e i), pk_in (4 * m + i) 96 (by omega) (ce_x4 m i), nm_e (nm_r (nI_1 i) (hw _ ?_))⟩)
    rw [pk_cl (4 * e + i) (ce_x4 e i), pk_cl (4 * m + i) (ce_x4 m i)]
    exact ce_ws rfl
theorem ce_adde {post : St2 → Prop} {s c q : Nat} {v bits : Int32} (hs : s < 2) (hc : c < 4) (hq : q < 24) (h2 : a2 s = nI q)
    (hp : post (rs, cs, mk, os, ts, li, lc, ft, fb, a1, upd a2 s (nI (q + 1)), vp_updL (vp_updL (ce_w a3 (4 * (24 * s + q)) 4 (fun _ => 0)) (4 * (24 * s + q) + c) 1) (4 * (24 * s + q) + 3) v.toInt64, upd a4 (24 * s + q) (ce_nb bits), a5, a6, a7, a8, a9, a10)) :
    wpX_addEdge post (rs, cs, mk, os, ts, li, lc, ft, fb, a1, a2, a3, a4, a5, a6, a7, a8, a9, a10) (nI s) (nI c) v bits := by
  refine ⟨pk_in s 2 hs, nm_r (e' := nI (24 * s + q)) (by rw [nI_clamp (by omega), h2, ce_x24, nI_add]) ?_⟩
  refine pk_loop (fun n i x => wX_addEdge_16 post (nI s) (nI c) v bits (nI (24 * s + q)) rs cs mk os ts li lc ft fb n (nI i) a1 a2 x a4 a5 a6 a7 a8 a9 a10) (fun i x => x = ce_w a3 (4 * (24 * s + q)) i (fun _ => 0)) 4 0 a3 (by omega) ce_w0.symm ?_ ?_
  · intro n x h
    obtain rfl : x = ce_w a3 (4 * (24 * s + q)) 4 (fun _ => 0) := h
    refine pk_le 4 4 (fun _ => ⟨pk_in (4 * (24 * s + q) + c) 192 (by omega) (ce_x4 _ c), nm_e ⟨pk_in (4 * (24 * s + q) + 3) 192 (by omega) (ce_x43 _), nm_e ⟨pk_in (24 * s + q) 48 (by omega), nm_e ⟨pk_in s 2 hs, pk_in s 2 hs, nm_e ?_⟩⟩⟩⟩) (fun z => absurd z (by omega))
    rw [pk_cl (4 * (24 * s + q) + c) (ce_x4 _ c), pk_cl (4 * (24 * s + q) + 3) (ce_x43 _), nI_clamp (show 24 * s + q < 2 ^ 31 by omega), nI_clamp (show s < 2 ^ 31 by omega), h2, nI_1]
    exact hp
  · intro n i x hi h hw
    obtain rfl : x = ce_w a3 (4 * (24 * s + q)) i (fun _ => 0) := h
    refine pk_le 4 i (fun z => absurd z (by omega)) (fun _ => ⟨pk_in (4 * (24 * s + q) + i) 192 (by omega) (ce_x4 _ i), nm_e (nm_r (nI_1 i) (hw _ ?_))⟩)
    rw [pk_cl (4 * (24 * s + q) + i) (ce_x4 _ i)]
    exact ce_ws rfl
theorem ce_sumw {post : Int64 → Prop} {e : Nat} (he : e < 48) (hp : post ((a3 (4 * e) + a3 (4 * e + 1)) + a3 (4 * e + 2))) : wpX_sumOf post (rs, cs, mk, os, ts, li, lc, ft, fb, a1, a2, a3, a4, a5, a6, a7, a8, a9, a10) (nI e) := by
  refine ⟨pk_in (4 * e) 192 (by omega) (ce_x40 e), pk_in (4 * e + 1) 192 (by omega) (ce_x41 e), pk_in (4 * e + 2) 192 (by omega) (ce_x42 e), ?_⟩
  rw [pk_cl (4 * e) (ce_x40 e), pk_cl (4 * e + 1) (ce_x41 e), pk_cl (4 * e + 2) (ce_x42 e)]
  exact hp
theorem ce_nei {post : Int32 → Prop} {b N k l : Nat} {E : List ce_Ed} (hN : E.length = N) (hb : b + N ≤ 48) (ht : ∀ j, j < N → a4 (b + j) = ce_t (E.getD j ce_d)) (hk : k < N) (hl : l < N)
    (hp : post (if ce_nr (ce_t (E.getD k ce_d) &&& ce_t (E.getD l ce_d)) k l E 0 = false then 0 else 1)) :
    wpX_areNeighbours post (rs, cs, mk, os, ts, li, lc, ft, fb, a1, a2, a3, a4, a5, a6, a7, a8, a9, a10) (nI b) (nI N) (nI k) (nI l) := by
  refine ⟨pk_in (b + k) 48 (by omega) (nI_add b k), pk_in (b + l) 48 (by omega) (nI_add b l), nm_r (e' := ce_t (E.getD k ce_d) &&& ce_t (E.getD l ce_d)) (by rw [pk_cl (b + k) (nI_add b k), pk_cl (b + l) (nI_add b l), ht k hk, ht l hl]) ?_⟩
  generalize ce_t (E.getD k ce_d) &&& ce_t (E.getD l ce_d) = com at hp ⊢
  refine pk_loop (σ := Unit) (fun n i _ => wX_areNeighbours_23 post (nI b) (nI N) (nI k) (nI l) com rs cs mk os ts li lc ft fb a1 a2 a3 a4 a5 a6 a7 a8 a9 a10 n (nI i)) (fun i _ => post (if ce_nr com k l (E.drop i) i = false then 0 else 1)) N 0 () (by omega) hp ?_ ?_
  · intro n _ h
    have h' : post (if ce_nr com k l (E.drop N) N = false then 0 else 1) := h
    rw [List.drop_of_length_le (by omega), ce_nr, if_neg (by decide)] at h'
    exact pk_le N N (fun _ => h') (fun z => absurd z (by omega))
  · intro n i _ hi h hw
    have h' : post (if ce_nr com k l (E.drop i) i = false then 0 else 1) := h
    rw [ce_drop (by omega), ce_nr] at h'
    refine pk_le N i (fun z => absurd z (by omega)) (fun _ => pk_eq i k (fun e => nm_r (nI_1 i) (hw () ?_)) (fun e => pk_eq i l (fun e2 => nm_r (nI_1 i) (hw () ?_)) (fun e2 => ⟨pk_in (b + i) 48 (by omega) (nI_add b i), ?_⟩)))
    · rw [if_pos e] at h'
      exact h'
    · rw [if_neg e, if_pos e2] at h'
      exact h'
    · rw [pk_cl (b + i) (nI_add b i), ht i hi]
      rw [if_neg e, if_neg e2] at h'
      by_cases c : ce_t (E.getD i ce_d) &&& com = com
      · rw [if_pos c, if_pos rfl] at h'
        exact br_t c h'
      · rw [if_neg c] at h'
        exact br_f c (nm_r (nI_1 i) (hw () h'))
theorem ce_crw {post : St2 → Prop} {b k l m : Nat} {more : Int32} {x : Nat → Int64} {d : Int64} (hk : b + k < 48) (hl : b + l < 48) (hk' : k < 24) (hl' : l < 24) (hm : m < 24)
    (hx : ∀ i, i < 4 → a3 (4 * (b + k) + i) * (-(a7 l)) + a3 (4 * (b + l) + i) * a7 k = x i) (hd : ce_dv x 4 = some d) (h0 : ¬ d = 0)
    (hp : post (rs, cs, nI (m + 1), os, ts, li, lc, ft, fb, a1, a2, a3, a4, ce_w a5 (4 * m) 4 (fun i => x i / d), upd a6 m (ce_nb ((a4 (b + k) &&& a4 (b + l)) ||| more)), a7, a8, a9, a10)) :
    wpX_cross post (rs, cs, nI m, os, ts, li, lc, ft, fb, a1, a2, a3, a4, a5, a6, a7, a8, a9, a10) (nI b) (nI k) (nI l) more := by
  have D := ce_dvl hd
  refine pk_loop (σ := Int64 × (Nat → Int64)) (fun n i s => wX_cross_6 post (nI b) (nI k) (nI l) more rs cs (nI m) os ts li lc ft fb n s.1 (nI i) a1 a2 a3 a4 s.2 a6 a7 a8 a9 a10) (fun i s => ce_dv x i = some s.1 ∧ s.2 = ce_w a5 (4 * m) i x) 4 0 (0, a5) (by omega) ⟨rfl, ce_w0.symm⟩ ?_ ?_
  · rintro n ⟨d', y⟩ ⟨h1, h2⟩
    have h1 : ce_dv x 4 = some d' := h1
    obtain rfl : y = ce_w a5 (4 * m) 4 x := h2
    obtain rfl : d = d' := Option.some.inj (hd.symm.trans h1)
    refine pk_le 4 4 (fun _ => ?_) (fun z => absurd z (by omega))
    refine pk_loop (fun n i y => wX_cross_91 post (nI b) (nI k) (nI l) more d rs cs (nI m) os ts li lc ft fb n (nI i) a1 a2 a3 a4 y a6 a7 a8 a9 a10) (fun i y => y = ce_w (ce_w a5 (4 * m) 4 x) (4 * m) i (fun i => x i / d)) 4 0 _ (by omega) ce_w0.symm ?_ ?_
    · intro n y h
      obtain rfl : y = ce_w (ce_w a5 (4 * m) 4 x) (4 * m) 4 (fun i => x i / d) := h
      refine pk_le 4 4 (fun _ => ⟨pk_in (b + k) 48 hk (nI_add b k), pk_in (b + l) 48 hl (nI_add b l), pk_in m 24 hm, nm_e (nm_e ?_)⟩) (fun z => absurd z (by omega))
      rw [pk_cl (b + k) (nI_add b k), pk_cl (b + l) (nI_add b l), nI_clamp (show m < 2 ^ 31 by omega), nI_1, ce_ww]
      exact hp
    · intro n i y hi h hw
      obtain rfl : y = ce_w (ce_w a5 (4 * m) 4 x) (4 * m) i (fun i => x i / d) := h
      refine pk_le 4 i (fun z => absurd z (by omega)) (fun _ => ⟨pk_in (4 * m + i) 96 (by omega) (ce_x4 m i), h0, pk_in (4 * m + i) 96 (by omega) (ce_x4 m i), nm_e (nm_r (nI_1 i) (hw _ ?_))⟩)
      rw [pk_cl (4 * m + i) (ce_x4 m i)]
      exact ce_ws (by rw [ce_wo (by omega), ce_wi hi])
  · rintro n i ⟨d', y⟩ hi ⟨h1, h2⟩ hw
    have h1 : ce_dv x i = some d' := h1
    obtain rfl : y = ce_w a5 (4 * m) i x := h2
    obtain ⟨d2, hd2⟩ := D (i + 1) (by omega)
    obtain ⟨d3, e1, e2⟩ := ce_dvs hd2
    obtain rfl : d3 = d' := Option.some.inj (e1.symm.trans h1)
    refine pk_le 4 i (fun z => absurd z (by omega)) (fun _ => ⟨pk_in (4 * (b + k) + i) 192 (by omega) (ce_x4b b k i), pk_in l 24 hl', pk_in (4 * (b + l) + i) 192 (by omega) (ce_x4b b l i), pk_in k 24 hk', nm_r (e' := x i) ?_ ⟨pk_in (4 * m + i) 96 (by omega) (ce_x4 m i), nm_e (ce_cdw e2 (nm_r (nI_1 i) (hw (d2, _) ⟨hd2, ?_⟩)))⟩⟩)
    · rw [pk_cl (4 * (b + k) + i) (ce_x4b b k i), pk_cl (4 * (b + l) + i) (ce_x4b b l i), nI_clamp (show l < 2 ^ 31 by omega), nI_clamp (show k < 2 ^ 31 by omega)]
      exact hx i hi
    · rw [pk_cl (4 * m + i) (ce_x4 m i)]
      exact ce_ws rfl
end
end
section
/-! the walk: addChoice -/
abbrev ce_J11 : Type := Int32 → (Nat → Int32) → (Nat → Int32) → (Nat → Int64) → (Nat → Int32) → (Nat → Int64) → (Nat → Int32) → (Nat → Int64) → (Nat → Int32) → (Nat → Int32) → (Nat → Int32) → Prop
abbrev ce_J20 : Type := Int32 → Int32 → Int32 → Int32 → Int32 → Int32 → Int32 → Int32 → Int64 → Int64 → (Nat → Int32) → (Nat → Int32) → (Nat → Int64) → (Nat → Int32) → (Nat → Int64) → (Nat → Int32) → (Nat → Int64) → (Nat → Int32) → (Nat → Int32) → (Nat → Int32) → Prop
section
variable {rs cs mk os ts li lc : Int32} {ft fb : Int64} {a1 a2 : Nat → Int32} {a3 : Nat → Int64} {a4 : Nat → Int32} {a5 : Nat → Int64} {a6 : Nat → Int32} {a7 : Nat → Int64} {a8 a9 a10 : Nat → Int32}
theorem ce_50 {post : St2 → Prop} {J16 : ce_J20} {x1 : Int32} {b k o N m : Nat} {e : ce_Ed} {L : Nat → Int64} (hk : k < 24) (hb : b + k < 48) (ho : o < 3)
    (he : ∀ i, i < 4 → a3 (4 * (b + k) + i) = ce_c e i) (ht : a4 (b + k) = ce_t e) (hL : ∀ j, j < 9 → (a8 j).toInt64 = L j)
    (h1 : ce_sl L o e < 0 → J16 (nI (k + 1)) rs cs (nI m) os ts li lc ft fb a1 a2 a3 a4 a5 a6 (vp_updL a7 k (ce_sl L o e)) a8 a9 a10)
    (h2 : ¬ ce_sl L o e < 0 → m < 24 ∧ J16 (nI (k + 1)) rs cs (nI (m + 1)) os ts li lc ft fb a1 a2 a3 a4 (ce_w a5 (4 * m) 4 (fun i => a3 (4 * (b + k) + i))) (upd a6 m (ce_nb (ce_t e ||| (if ce_sl L o e = 0 then ce_bo o else 0)))) (vp_updL a7 k (ce_sl L o e)) a8 a9 a10) :
    ∃ n, wX_addChoice_50 post J16 x1 (nI b) (nI o) (nI N) (nI k) (nI (b + k)) rs cs (nI m) os ts li lc ft fb n 0 a1 a2 a3 a4 a5 a6 (vp_updL a7 k (ce_c e 3)) a8 a9 a10 := by
  refine pk_loop (fun n i y => wX_addChoice_50 post J16 x1 (nI b) (nI o) (nI N) (nI k) (nI (b + k)) rs cs (nI m) os ts li lc ft fb n (nI i) a1 a2 a3 a4 a5 a6 y a8 a9 a10) (fun i y => y = vp_updL a7 k (ce_sp L o e i)) 3 0 _ (by omega) rfl ?_ ?_
  · intro n y h
    obtain rfl : y = vp_updL a7 k (ce_sl L o e) := h
    refine pk_le 3 3 (fun _ => ⟨pk_in k 24 hk, ?_⟩) (fun z => absurd z (by omega))
    rw [nI_clamp (show k < 2 ^ 31 by omega), pk_uLs]
    by_cases c : ce_sl L o e < 0
    · exact br_t c (nm_r (nI_1 k) (h1 c))
    · obtain ⟨hm, h2⟩ := h2 c
      refine br_f c ⟨pk_in k 24 hk, ?_⟩
      by_cases c2 : ce_sl L o e = 0
      · rw [if_pos c2] at h2
        refine br_t c2 (ce_keep hb hm (nm_r (nI_1 k) ?_))
        rw [ht]
        exact h2
      · rw [if_neg c2] at h2
        refine br_f c2 (ce_keep hb hm (nm_r (nI_1 k) ?_))
        rw [ht]
        exact h2
  · intro n i y hi h hw
    obtain rfl : y = vp_updL a7 k (ce_sp L o e i) := h
    refine pk_le 3 i (fun z => absurd z (by omega)) (fun _ => ⟨pk_in k 24 hk, pk_in (4 * (b + k) + i) 192 (by omega) (ce_x4 _ i), pk_in (3 * i + o) 9 (by omega) (ce_x3 i o), pk_in k 24 hk, nm_e (nm_r (nI_1 i) (hw _ ?_))⟩)
    rw [nI_clamp (show k < 2 ^ 31 by omega), pk_uLs, pk_cl (4 * (b + k) + i) (ce_x4 _ i), pk_cl (3 * i + o) (ce_x3 i o), he i (by omega), hL _ (by omega)]
    exact ce_uu
theorem ce_249 {post : St2 → Prop} {J237 : ce_J11} {b k : Nat} (hk : k < 24) (hb : b + k < 48)
    (hj : J237 (nI (k + 1)) a1 a2 (ce_w a3 (4 * (b + k)) 4 (fun i => a5 (4 * k + i))) (upd a4 (b + k) (vp_nar .byte (a6 k))) a5 a6 a7 a8 a9 a10) :
    ∃ n, wX_addChoice_249 post J237 (nI b) (nI k) rs cs mk os ts li lc ft fb n 0 a1 a2 a3 a4 a5 a6 a7 a8 a9 a10 := by
  refine pk_loop (fun n i y => wX_addChoice_249 post J237 (nI b) (nI k) rs cs mk os ts li lc ft fb n (nI i) a1 a2 y a4 a5 a6 a7 a8 a9 a10) (fun i y => y = ce_w a3 (4 * (b + k)) i (fun i => a5 (4 * k + i))) 4 0 a3 (by omega) ce_w0.symm ?_ ?_
  · intro n y h
    obtain rfl : y = ce_w a3 (4 * (b + k)) 4 (fun i => a5 (4 * k + i)) := h
    refine pk_le 4 4 (fun _ => ⟨pk_in k 24 hk, pk_in (b + k) 48 hb (nI_add b k), nm_e (nm_r (nI_1 k) ?_)⟩) (fun z => absurd z (by omega))
    rw [nI_clamp (show k < 2 ^ 31 by omega), pk_cl (b + k) (nI_add b k)]
    exact hj
  · intro n i y hi h hw
    obtain rfl : y = ce_w a3 (4 * (b + k)) i (fun i => a5 (4 * k + i)) := h
    refine pk_le 4 i (fun z => absurd z (by omega)) (fun _ => ⟨pk_in (4 * k + i) 96 (by omega) (ce_x4 k i), pk_in (4 * (b + k) + i) 192 (by omega) (ce_x4b b k i), nm_e (nm_r (nI_1 i) (hw _ ?_))⟩)
    rw [pk_cl (4 * k + i) (ce_x4 k i), pk_cl (4 * (b + k) + i) (ce_x4b b k i)]
    exact ce_ws rfl
/-- the made edges are laid back -/
theorem ce_237 {post : St2 → Prop} {b : Nat} {M : List ce_Ed} (hM : M.length ≤ 24) (hb : b ≤ 24) (h5 : ce_at a5 a6 0 M)
    (hp : ∀ f g, ce_at f g b M → post (rs, cs, nI M.length, os, ts, li, lc, ft, fb, a1, a2, f, g, a5, a6, a7, a8, a9, a10)) :
    ∃ n, wX_addChoice_237 post (nI b) rs cs (nI M.length) os ts li lc ft fb n 0 a1 a2 a3 a4 a5 a6 a7 a8 a9 a10 := by
  refine pk_loop (σ := (Nat → Int64) × (Nat → Int32)) (fun n i s => wX_addChoice_237 post (nI b) rs cs (nI M.length) os ts li lc ft fb n (nI i) a1 a2 s.1 s.2 a5 a6 a7 a8 a9 a10) (fun i s => ∀ k, k < i → (∀ i, i < 4 → s.1 (4 * (b + k) + i) = ce_c (M.getD k ce_d) i) ∧ s.2 (b + k) = ce_t (M.getD k ce_d)) M.length 0 (a3, a4) (by omega) (fun k hk => absurd hk (Nat.not_lt_zero k)) ?_ ?_
  · rintro n ⟨f, g⟩ h
    exact pk_le M.length M.length (fun _ => hp f g (fun k hk => ⟨(h k hk).1, (h k hk).2, (h5 k hk).2.2⟩)) (fun z => absurd z (by omega))
  · rintro n i ⟨f, g⟩ hi h hw
    refine pk_le M.length i (fun z => absurd z (by omega)) (fun _ => ce_249 (by omega) (by omega) (hw (ce_w f (4 * (b + i)) 4 (fun t => a5 (4 * i + t)), upd g (b + i) (vp_nar .byte (a6 i))) ?_))
    obtain ⟨q1, q2, q3⟩ := h5 i hi
    rw [Nat.zero_add] at q1 q2
    intro k hk
    show (∀ t, t < 4 → ce_w f (4 * (b + i)) 4 (fun t => a5 (4 * i + t)) (4 * (b + k) + t) = ce_c (M.getD k ce_d) t) ∧ upd g (b + i) (vp_nar .byte (a6 i)) (b + k) = ce_t (M.getD k ce_d)
    by_cases e : k = i
    · subst e
      exact ⟨fun t ht => by rw [ce_wi ht]; exact q1 t ht, by rw [pk_us, q2, q3]⟩
    · obtain ⟨r1, r2⟩ := h k (by omega)
      exact ⟨fun t ht => by rw [ce_wo (by omega)]; exact r1 t ht, by rw [pk_un (by omega)]; exact r2⟩
theorem ce_154 {post : St2 → Prop} {J144 : ce_J20} {x1 : Int32} {b k o N m : Nat} {E M Mf : List ce_Ed} {L : Nat → Int64} (hN : E.length = N) (hN' : N ≤ 24) (hb : b ≤ 24) (hk : k < N) (hE : ce_at a3 a4 b E) (hs : ∀ j, j < N → a7 j = ce_sl L o (E.getD j ce_d))
    (h : ce_cl L o (ce_bo o) E (E.getD k ce_d) k E 0 M = some Mf) (hm : M.length = m) (hm' : m ≤ 24) (hM : ce_at a5 a6 0 M)
    (hj : ∀ (f : Nat → Int64) (g : Nat → Int32), Mf.length ≤ 24 → ce_at f g 0 Mf → J144 (nI (k + 1)) rs cs (nI Mf.length) os ts li lc ft fb a1 a2 a3 a4 f g a7 a8 a9 a10) :
    ∃ n, wX_addChoice_154 post J144 x1 (nI b) (nI o) (nI N) (nI k) n 0 rs cs (nI m) os ts li lc ft fb a1 a2 a3 a4 a5 a6 a7 a8 a9 a10 := by
  refine pk_loop (σ := Nat × (Nat → Int64) × (Nat → Int32)) (fun n i s => wX_addChoice_154 post J144 x1 (nI b) (nI o) (nI N) (nI k) n (nI i) rs cs (nI s.1) os ts li lc ft fb a1 a2 a3 a4 s.2.1 s.2.2 a7 a8 a9 a10) (fun i s => ∃ M, ce_cl L o (ce_bo o) E (E.getD k ce_d) k (E.drop i) i M = some Mf ∧ M.length = s.1 ∧ s.1 ≤ 24 ∧ ce_at s.2.1 s.2.2 0 M) N 0 (m, a5, a6) (by omega) ⟨M, h, hm, hm', hM⟩ ?_ ?_
  · rintro n ⟨m, f, g⟩ ⟨M, h1, h2, h3, h4⟩
    rw [List.drop_of_length_le (by omega), ce_cl] at h1
    obtain rfl : M = Mf := Option.some.inj h1
    obtain rfl : M.length = m := h2
    exact pk_le N N (fun _ => nm_r (nI_1 k) (hj f g h3 h4)) (fun z => absurd z (by omega))
  · rintro n i ⟨m, f, g⟩ hi ⟨M, h1, h2, h3, h4⟩ hw
    have h2 : M.length = m := h2
    have h3 : m ≤ 24 := h3
    have h4 : ce_at f g 0 M := h4
    rw [ce_drop (by omega), ce_cl] at h1
    refine pk_le N i (fun z => absurd z (by omega)) (fun _ => ⟨pk_in k 24 (by omega), ?_⟩)
    dsimp only
    rw [nI_clamp (show k < 2 ^ 31 by omega), hs k hk]
    by_cases c1 : ce_sl L o (E.getD k ce_d) ≤ 0
    · rw [if_pos c1] at h1
      exact br_t c1 (nm_r (nI_1 i) (hw (m, f, g) ⟨M, h1, h2, h3, h4⟩))
    · rw [if_neg c1] at h1
      refine br_f c1 ⟨pk_in i 24 (by omega), ?_⟩
      rw [nI_clamp (show i < 2 ^ 31 by omega), hs i hi]
      by_cases c2 : 0 ≤ ce_sl L o (E.getD i ce_d)
      · rw [if_pos c2] at h1
        exact br_t c2 (nm_r (nI_1 i) (hw (m, f, g) ⟨M, h1, h2, h3, h4⟩))
      · rw [if_neg c2] at h1
        refine br_f c2 (ce_nei hN (by omega) (fun j hj => (hE j (by omega)).2.1) hk hi ?_)
        by_cases c3 : ce_nr (ce_t (E.getD k ce_d) &&& ce_t (E.getD i ce_d)) k i E 0 = false
        · rw [if_pos c3] at h1
          rw [if_pos c3]
          exact br_t rfl (nm_r (nI_1 i) (hw (m, f, g) ⟨M, h1, h2, h3, h4⟩))
        · rw [if_neg c3] at h1
          rw [if_neg c3]
          by_cases c4 : M.length < 24
          · rw [if_pos c4] at h1
            unfold ce_cross at h1
            cases hd : ce_dv (ce_cx (E.getD k ce_d) (E.getD i ce_d) (ce_sl L o (E.getD k ce_d)) (ce_sl L o (E.getD i ce_d))) 4 with
            | none => rw [hd] at h1; simp at h1
            | some d =>
              rw [hd] at h1
              dsimp only at h1
              by_cases c5 : d = 0
              · rw [if_pos c5] at h1
                simp at h1
              · rw [if_neg c5] at h1
                dsimp only at h1
                obtain ⟨p1, p2, p3⟩ := hE k (by omega)
                obtain ⟨q1, q2, q3⟩ := hE i (by omega)
                refine br_f (by decide) (ce_crw (by omega) (by omega) (by omega) (by omega) (by omega) (fun t ht => ?_) hd c5 (nm_r (nI_1 i) (hw (m + 1, ce_w f (4 * m) 4 (fun t => ce_cx (E.getD k ce_d) (E.getD i ce_d) (ce_sl L o (E.getD k ce_d)) (ce_sl L o (E.getD i ce_d)) t / d), upd g m (ce_nb ((a4 (b + k) &&& a4 (b + i)) ||| ce_bo o))) ⟨_, h1, by rw [List.length_append, List.length_singleton, h2], by show m + 1 ≤ 24; omega, ?_⟩)))
                · rw [p1 t ht, q1 t ht, hs k hk, hs i hi]
                  rfl
                · dsimp only
                  refine ce_push h4 (fun j hj => ce_wo (by omega)) (fun j hj => pk_un (by omega)) (fun t ht => ?_) ?_ (ce_nbn _)
                  · rw [Nat.zero_add, h2, ce_wi ht]
                    rcases (show t = 0 ∨ t = 1 ∨ t = 2 ∨ t = 3 by omega) with rfl | rfl | rfl | rfl <;> rfl
                  · rw [Nat.zero_add, h2, pk_us, p2, q2]
                    rfl
          · rw [if_neg c4] at h1
            simp at h1
theorem ce_144 {post : St2 → Prop} {s b o N m : Nat} {E M Mf : List ce_Ed} {L : Nat → Int64} (hs2 : s < 2) (hN : E.length = N) (hN' : N ≤ 24) (hb : b ≤ 24) (hE : ce_at a3 a4 b E) (hs : ∀ j, j < N → a7 j = ce_sl L o (E.getD j ce_d))
    (h : ce_ck L o (ce_bo o) E E 0 M = some Mf) (hm : M.length = m) (hm' : m ≤ 24) (hM : ce_at a5 a6 0 M)
    (hp : ∀ mk a2 a3 a4 a5 a6 a7, Mf.length ≤ 24 → a2 s = nI Mf.length → ce_at a3 a4 b Mf → post (rs, cs, mk, os, ts, li, lc, ft, fb, a1, a2, a3, a4, a5, a6, a7, a8, a9, a10)) :
    ∃ n, wX_addChoice_144 post (nI s) (nI b) (nI o) (nI N) n 0 rs cs (nI m) os ts li lc ft fb a1 a2 a3 a4 a5 a6 a7 a8 a9 a10 := by
  refine pk_loop (σ := Nat × (Nat → Int64) × (Nat → Int32)) (fun n i s' => wX_addChoice_144 post (nI s) (nI b) (nI o) (nI N) n (nI i) rs cs (nI s'.1) os ts li lc ft fb a1 a2 a3 a4 s'.2.1 s'.2.2 a7 a8 a9 a10) (fun i s' => ∃ M, ce_ck L o (ce_bo o) E (E.drop i) i M = some Mf ∧ M.length = s'.1 ∧ s'.1 ≤ 24 ∧ ce_at s'.2.1 s'.2.2 0 M) N 0 (m, a5, a6) (by omega) ⟨M, h, hm, hm', hM⟩ ?_ ?_
  · rintro n ⟨m, f, g⟩ ⟨M, h1, h2, h3, h4⟩
    rw [List.drop_of_length_le (by omega), ce_ck] at h1
    obtain rfl : M = Mf := Option.some.inj h1
    obtain rfl : M.length = m := h2
    refine pk_le N N (fun _ => ⟨pk_in s 2 hs2, nm_e (ce_237 h3 hb h4 (fun f g q => hp _ _ _ _ _ _ _ h3 ?_ q))⟩) (fun z => absurd z (by omega))
    rw [nI_clamp (show s < 2 ^ 31 by omega), pk_us]
  · rintro n i ⟨m, f, g⟩ hi ⟨M, h1, h2, h3, h4⟩ hw
    rw [ce_drop (by omega), ce_ck] at h1
    cases hc : ce_cl L o (ce_bo o) E (E.getD i ce_d) i E 0 M with
    | none => rw [hc] at h1; simp at h1
    | some M' =>
      rw [hc] at h1
      exact pk_le N i (fun z => absurd z (by omega)) (fun _ => ce_154 hN hN' hb hi hE hs hc h2 h3 h4 (fun f g hl hf => hw (M'.length, f, g) ⟨M', h1, rfl, hl, hf⟩))
theorem ce_16 {post : St2 → Prop} {s b o N : Nat} {E Mf Ef : List ce_Ed} {L : Nat → Int64} (hs2 : s < 2) (ho : o < 3) (hN : E.length = N) (hN' : N ≤ 24) (hb : b ≤ 24) (hE : ce_at a3 a4 b E) (hL : ∀ j, j < 9 → (a8 j).toInt64 = L j)
    (h : ce_kp L o (ce_bo o) E [] = some Mf) (h' : ce_ck L o (ce_bo o) E E 0 Mf = some Ef)
    (hp : ∀ mk a2 a3 a4 a5 a6 a7, Ef.length ≤ 24 → a2 s = nI Ef.length → ce_at a3 a4 b Ef → post (rs, cs, mk, os, ts, li, lc, ft, fb, a1, a2, a3, a4, a5, a6, a7, a8, a9, a10)) :
    ∃ n, wX_addChoice_16 post (nI s) (nI b) (nI o) (nI N) n 0 rs cs 0 os ts li lc ft fb a1 a2 a3 a4 a5 a6 a7 a8 a9 a10 := by
  refine pk_loop (σ := Nat × (Nat → Int64) × (Nat → Int32) × (Nat → Int64)) (fun n i s' => wX_addChoice_16 post (nI s) (nI b) (nI o) (nI N) n (nI i) rs cs (nI s'.1) os ts li lc ft fb a1 a2 a3 a4 s'.2.1 s'.2.2.1 s'.2.2.2 a8 a9 a10) (fun i s' => (∃ M, ce_kp L o (ce_bo o) (E.drop i) M = some Mf ∧ M.length = s'.1 ∧ s'.1 ≤ 24 ∧ ce_at s'.2.1 s'.2.2.1 0 M) ∧ ∀ j, j < i → s'.2.2.2 j = ce_sl L o (E.getD j ce_d)) N 0 (0, a5, a6, a7) (by omega) ⟨⟨[], h, rfl, Nat.zero_le _, ce_at0⟩, fun j hj => absurd hj (Nat.not_lt_zero j)⟩ ?_ ?_
  · rintro n ⟨m, f, g, y⟩ ⟨⟨M, h1, h2, h3, h4⟩, h5⟩
    rw [List.drop_of_length_le (by omega), ce_kp] at h1
    obtain rfl : M = Mf := Option.some.inj h1
    exact pk_le N N (fun _ => ce_144 hs2 hN hN' hb hE h5 h' h2 h3 h4 hp) (fun z => absurd z (by omega))
  · rintro n i ⟨m, f, g, y⟩ hi ⟨⟨M, h1, h2, h3, h4⟩, h5⟩ hw
    have h2 : M.length = m := h2
    have h3 : m ≤ 24 := h3
    have h4 : ce_at f g 0 M := h4
    have h5 : ∀ j, j < i → y j = ce_sl L o (E.getD j ce_d) := h5
    obtain ⟨p1, p2, p3⟩ := hE i (by omega)
    have h6 : ∀ j, j < i + 1 → vp_updL y i (ce_sl L o (E.getD i ce_d)) j = ce_sl L o (E.getD j ce_d) := by
      intro j hj
      by_cases e : j = i
      · rw [e, pk_uLs]
      · rw [pk_uLn e]
        exact h5 j (by omega)
    rw [ce_drop (by omega), ce_kp] at h1
    refine pk_le N i (fun z => absurd z (by omega)) (fun _ => nm_r (nI_add b i) ⟨pk_in (4 * (b + i) + 3) 192 (by omega) (ce_x43 _), pk_in i 24 (by omega), nm_r (e' := vp_updL y i (ce_c (E.getD i ce_d) 3)) ?_ ?_⟩)
    · rw [nI_clamp (show i < 2 ^ 31 by omega), pk_cl (4 * (b + i) + 3) (ce_x43 _), p1 3 (by omega)]
    · refine ce_50 (by omega) (by omega) ho p1 p2 hL (fun c => ?_) (fun c => ?_)
      · rw [if_pos c] at h1
        exact hw (m, f, g, _) ⟨⟨M, h1, h2, h3, h4⟩, h6⟩
      · rw [if_neg c] at h1
        by_cases c2 : M.length < 24
        · rw [if_pos c2] at h1
          refine ⟨by omega, hw (m + 1, ce_w f (4 * m) 4 (fun t => a3 (4 * (b + i) + t)), upd g m (ce_nb (ce_t (E.getD i ce_d) ||| (if ce_sl L o (E.getD i ce_d) = 0 then ce_bo o else 0))), vp_updL y i (ce_sl L o (E.getD i ce_d))) ⟨⟨_, h1, by rw [List.length_append, List.length_singleton, h2], by show m + 1 ≤ 24; omega, ?_⟩, h6⟩⟩
          dsimp only
          refine ce_push h4 (fun j hj => ce_wo (by omega)) (fun j hj => pk_un (by omega)) (fun t ht => ?_) ?_ (ce_nbn _)
          · rw [Nat.zero_add, h2, ce_wi ht, p1 t ht]
            rcases (show t = 0 ∨ t = 1 ∨ t = 2 ∨ t = 3 by omega) with rfl | rfl | rfl | rfl <;> rfl
          · rw [Nat.zero_add, h2, pk_us]
            rfl
        · rw [if_neg c2] at h1
          simp at h1
theorem ce_choice {post : St2 → Prop} {s b o : Nat} {E Ef : List ce_Ed} {L : Nat → Int64} (hs2 : s < 2) (ho : o < 3) (hN : E.length ≤ 24) (hb : b ≤ 24) (h2 : a2 s = nI E.length) (hE : ce_at a3 a4 b E) (hL : ∀ j, j < 9 → (a8 j).toInt64 = L j)
    (h : ce_ac L o E = some Ef)
    (hp : ∀ mk a2 a3 a4 a5 a6 a7, Ef.length ≤ 24 → a2 s = nI Ef.length → ce_at a3 a4 b Ef → post (rs, cs, mk, os, ts, li, lc, ft, fb, a1, a2, a3, a4, a5, a6, a7, a8, a9, a10)) :
    wpX_addChoice post (rs, cs, mk, os, ts, li, lc, ft, fb, a1, a2, a3, a4, a5, a6, a7, a8, a9, a10) (nI s) (nI b) (nI o) := by
  unfold ce_ac at h
  cases hc : ce_kp L o (ce_bo o) E [] with
  | none => rw [hc] at h; simp at h
  | some M =>
    rw [hc] at h
    exact ⟨pk_in s 2 hs2, nm_r (by rw [nI_clamp (by omega), h2]) (ce_16 hs2 ho rfl hN hb hE hL hc h hp)⟩
end
end
section
/-! the walk: dropLast, makeCone -/
abbrev ce_J12 : Type := Int32 → Int32 → (Nat → Int32) → (Nat → Int32) → (Nat → Int64) → (Nat → Int32) → (Nat → Int64) → (Nat → Int32) → (Nat → Int64) → (Nat → Int32) → (Nat → Int32) → (Nat → Int32) → Prop
theorem ce_x30 (c : Nat) : (3 : Int32) * nI c + 0 = nI (3 * c + 0) := ce_x3 c 0
theorem ce_new4 {a : Nat → Int64} {p c : Nat} {v : Int64} (t : Nat) (ht : t < 4) : vp_updL (vp_updL (ce_w a p 4 (fun _ => 0)) (p + c) 1) (p + 3) v (p + t) = if t = 3 then v else if t = c then 1 else 0 := by
  by_cases e : t = 3
  · rw [if_pos e, e, pk_uLs]
  · rw [if_neg e, pk_uLn (by omega)]
    by_cases e2 : t = c
    · rw [if_pos e2, e2, pk_uLs]
    · rw [if_neg e2, pk_uLn (by omega), ce_wi ht]
theorem ce_new4o {a : Nat → Int64} {p c : Nat} {v : Int64} {j : Nat} (hj : j < p) : vp_updL (vp_updL (ce_w a p 4 (fun _ => 0)) (p + c) 1) (p + 3) v j = a j := by
  rw [pk_uLn (by omega), pk_uLn (by omega), ce_wo (by omega)]
section
variable {rs cs mk os ts li lc : Int32} {ft fb : Int64} {a1 a2 : Nat → Int32} {a3 : Nat → Int64} {a4 : Nat → Int32} {a5 : Nat → Int64} {a6 : Nat → Int32} {a7 : Nat → Int64} {a8 a9 a10 : Nat → Int32}
theorem ce_39 {post : St2 → Prop} {J5 : ce_J12} {x1 : Int32} {b q k : Nat} (hk : k < 24) (hb : b ≤ 24) (hq : q ≤ k)
    (hj : J5 (nI (q + 1)) (nI (k + 1)) a1 a2 (ce_w a3 (4 * (b + q)) 4 (fun t => a3 (4 * (b + k) + t))) (upd a4 (b + q) (vp_nar .byte (a4 (b + k)))) a5 a6 a7 a8 a9 a10) :
    ∃ n, wX_dropLast_39 post J5 x1 (nI b) (nI q) (nI k) (nI (b + k)) rs cs mk os ts li lc ft fb n 0 a1 a2 a3 a4 a5 a6 a7 a8 a9 a10 := by
  refine pk_loop (fun n i y => wX_dropLast_39 post J5 x1 (nI b) (nI q) (nI k) (nI (b + k)) rs cs mk os ts li lc ft fb n (nI i) a1 a2 y a4 a5 a6 a7 a8 a9 a10) (fun i y => y = ce_w a3 (4 * (b + q)) i (fun t => a3 (4 * (b + k) + t))) 4 0 a3 (by omega) ce_w0.symm ?_ ?_
  · intro n y h
    obtain rfl : y = ce_w a3 (4 * (b + q)) 4 (fun t => a3 (4 * (b + k) + t)) := h
    refine pk_le 4 4 (fun _ => ⟨pk_in (b + k) 48 (by omega), pk_in (b + q) 48 (by omega) (nI_add b q), nm_e (nm_r (nI_1 q) (nm_r (nI_1 k) ?_))⟩) (fun z => absurd z (by omega))
    rw [nI_clamp (show b + k < 2 ^ 31 by omega), pk_cl (b + q) (nI_add b q)]
    exact hj
  · intro n i y hi h hw
    obtain rfl : y = ce_w a3 (4 * (b + q)) i (fun t => a3 (4 * (b + k) + t)) := h
    refine pk_le 4 i (fun z => absurd z (by omega)) (fun _ => ⟨pk_in (4 * (b + k) + i) 192 (by omega) (ce_x4 _ i), pk_in (4 * (b + q) + i) 192 (by omega) (ce_x4b b q i), nm_e (nm_r (nI_1 i) (hw _ ?_))⟩)
    rw [pk_cl (4 * (b + k) + i) (ce_x4 _ i), pk_cl (4 * (b + q) + i) (ce_x4b b q i)]
    exact ce_ws (ce_wo (by omega))
theorem ce_drp {post : St2 → Prop} {s b : Nat} {E : List ce_Ed} (hs : s < 2) (hN : E.length ≤ 24) (hb : b ≤ 24) (h2 : a2 s = nI E.length) (hE : ce_at a3 a4 b E)
    (hp : ∀ a2 a3 a4, (ce_dl E []).length ≤ 24 → a2 s = nI (ce_dl E []).length → ce_at a3 a4 b (ce_dl E []) → post (rs, cs, mk, os, ts, li, lc, ft, fb, a1, a2, a3, a4, a5, a6, a7, a8, a9, a10)) :
    wpX_dropLast post (rs, cs, mk, os, ts, li, lc, ft, fb, a1, a2, a3, a4, a5, a6, a7, a8, a9, a10) (nI s) (nI b) := by
  generalize hK : ce_dl E [] = Kf at hp
  refine pk_loop (σ := Nat × (Nat → Int64) × (Nat → Int32)) (fun n i s' => wX_dropLast_5 post (nI s) (nI b) rs cs mk os ts li lc ft fb n (nI s'.1) (nI i) a1 a2 s'.2.1 s'.2.2 a5 a6 a7 a8 a9 a10)
    (fun i s' => (∃ K, ce_dl (E.drop i) K = Kf ∧ K.length = s'.1 ∧ s'.1 ≤ i ∧ ce_at s'.2.1 s'.2.2 b K) ∧ ∀ j, i ≤ j → j < E.length → (∀ t, t < 4 → s'.2.1 (4 * (b + j) + t) = ce_c (E.getD j ce_d) t) ∧ s'.2.2 (b + j) = ce_t (E.getD j ce_d) ∧ vp_nar .byte (ce_t (E.getD j ce_d)) = ce_t (E.getD j ce_d))
    E.length 0 (0, a3, a4) (by omega) ⟨⟨[], hK, rfl, Nat.le_refl 0, ce_at0⟩, fun j _ hj => hE j hj⟩ ?_ ?_
  · rintro n ⟨q, f, g⟩ ⟨⟨K, h1, h3, h4, h5⟩, h6⟩
    have h4 : q ≤ E.length := h4
    rw [List.drop_of_length_le (by omega), ce_dl] at h1
    subst h1
    obtain rfl : K.length = q := h3
    refine ⟨pk_in s 2 hs, pk_le E.length E.length (fun _ => ⟨pk_in s 2 hs, nm_e (hp _ _ _ (by omega) ?_ h5)⟩) (fun z => absurd z (by omega)) (by rw [nI_clamp (by omega)]; exact h2)⟩
    rw [nI_clamp (show s < 2 ^ 31 by omega), pk_us]
  · rintro n i ⟨q, f, g⟩ hi ⟨⟨K, h1, h3, h4, h5⟩, h6⟩ hw
    have h3 : K.length = q := h3
    have h4 : q ≤ i := h4
    have h5 : ce_at f g b K := h5
    have h6 : ∀ j, i ≤ j → j < E.length → (∀ t, t < 4 → f (4 * (b + j) + t) = ce_c (E.getD j ce_d) t) ∧ g (b + j) = ce_t (E.getD j ce_d) ∧ vp_nar .byte (ce_t (E.getD j ce_d)) = ce_t (E.getD j ce_d) := h6
    obtain ⟨p1, p2, p3⟩ := h6 i (Nat.le_refl i) hi
    rw [ce_drop hi, ce_dl] at h1
    refine ⟨pk_in s 2 hs, pk_le E.length i (fun z => absurd z (by omega)) (fun _ => nm_r (nI_add b i) (ce_sumw (by omega) ?_)) (by rw [nI_clamp (by omega)]; exact h2)⟩
    have hsum : (f (4 * (b + i)) + f (4 * (b + i) + 1)) + f (4 * (b + i) + 2) = ce_sum (E.getD i ce_d) := by
      rw [show f (4 * (b + i)) = ce_c (E.getD i ce_d) 0 from p1 0 (by omega), p1 1 (by omega), p1 2 (by omega)]
      rfl
    dsimp only
    rw [hsum]
    by_cases c : ce_sum (E.getD i ce_d) = 0
    · rw [if_pos c] at h1
      exact br_t c (nm_r (nI_1 i) (hw (q, f, g) ⟨⟨K, h1, h3, by show q ≤ i + 1; omega, h5⟩, fun j hj hj' => h6 j (by omega) hj'⟩))
    · rw [if_neg c] at h1
      refine br_f c (ce_39 (by omega) hb h4 (hw (q + 1, ce_w f (4 * (b + q)) 4 (fun t => f (4 * (b + i) + t)), upd g (b + q) (vp_nar .byte (g (b + i)))) ⟨⟨_, h1, by rw [List.length_append, List.length_singleton, h3], by show q + 1 ≤ i + 1; omega, ?_⟩, fun j hj hj' => ?_⟩))
      · dsimp only
        refine ce_push h5 (fun j hj => ce_wo (by omega)) (fun j hj => pk_un (by omega)) (fun t ht => ?_) ?_ p3
        · rw [h3, ce_wi ht, p1 t ht]
        · rw [h3, pk_us, p2, p3]
      · dsimp only
        obtain ⟨r1, r2, r3⟩ := h6 j (by omega) hj'
        refine ⟨fun t ht => ?_, ?_, r3⟩
        · rw [ce_wo (by omega), r1 t ht]
        · rw [pk_un (by omega), r2]
theorem ce_inw {post : Int32 → Prop} {x k : Int32} (h0 : (x >>> (k &&& 31)) &&& 1 = 0 → post 0) (h1 : ¬ (x >>> (k &&& 31)) &&& 1 = 0 → post 1) : wpX_isIn post (rs, cs, mk, os, ts, li, lc, ft, fb, a1, a2, a3, a4, a5, a6, a7, a8, a9, a10) x k := ⟨h0, h1⟩
theorem ce_low {post : Int32 → Prop} {other : Int32} (h : ¬ (other >>> ((0 : Int32) &&& 31)) &&& 1 = 0) (hp : post 0) : wpX_lowestIn post (rs, cs, mk, os, ts, li, lc, ft, fb, a1, a2, a3, a4, a5, a6, a7, a8, a9, a10) other :=
  ⟨0 + 1, br_f h (br_f (show ¬ (1 : Int32) = 0 by decide) hp)⟩
theorem ce_102 {post : St2 → Prop} {s : Nat} {other : Int32} {E Ef : List ce_Ed} {L : Nat → Int64} (hs : s < 2) (hL : ∀ j, j < 9 → (a8 j).toInt64 = L j) (h : ce_chs other L [1, 2] E = some Ef) (hN : E.length ≤ 24) (h2 : a2 s = nI E.length) (hE : ce_at a3 a4 (24 * s) E)
    (hp : ∀ mk a2 a3 a4 a5 a6 a7, (ce_dl Ef []).length ≤ 24 → a2 s = nI (ce_dl Ef []).length → ce_at a3 a4 (24 * s) (ce_dl Ef []) → post (rs, cs, mk, os, ts, li, lc, ft, fb, a1, a2, a3, a4, a5, a6, a7, a8, a9, a10)) :
    ∃ n, wX_makeCone_102 post (nI s) other (nI (24 * s)) n (nI 1) rs cs mk os ts li lc ft fb a1 a2 a3 a4 a5 a6 a7 a8 a9 a10 := by
  refine pk_loop (σ := Int32 × (Nat → Int32) × (Nat → Int64) × (Nat → Int32) × (Nat → Int64) × (Nat → Int32) × (Nat → Int64)) (fun n i s' => wX_makeCone_102 post (nI s) other (nI (24 * s)) n (nI i) rs cs s'.1 os ts li lc ft fb a1 s'.2.1 s'.2.2.1 s'.2.2.2.1 s'.2.2.2.2.1 s'.2.2.2.2.2.1 s'.2.2.2.2.2.2 a8 a9 a10)
    (fun i s' => ∃ E, ce_chs other L ([0, 1, 2].drop i) E = some Ef ∧ E.length ≤ 24 ∧ s'.2.1 s = nI E.length ∧ ce_at s'.2.2.1 s'.2.2.2.1 (24 * s) E)
    3 1 (mk, a2, a3, a4, a5, a6, a7) (by omega) ⟨E, h, hN, h2, hE⟩ ?_ ?_
  · rintro n ⟨mk, a2, a3, a4, a5, a6, a7⟩ ⟨E, h1, h3, h4, h5⟩
    rw [show ([0, 1, 2] : List Nat).drop 3 = [] from rfl, ce_chs] at h1
    obtain rfl : E = Ef := Option.some.inj h1
    exact pk_le 3 3 (fun _ => ce_drp hs h3 (by omega) h4 h5 (fun a2 a3 a4 => hp mk a2 a3 a4 a5 a6 a7)) (fun z => absurd z (by omega))
  · rintro n i ⟨mk, a2, a3, a4, a5, a6, a7⟩ hi ⟨E, h1, h3, h4, h5⟩ hw
    rw [show ([0, 1, 2] : List Nat).drop i = i :: ([0, 1, 2] : List Nat).drop (i + 1) from by rcases (show i = 0 ∨ i = 1 ∨ i = 2 by omega) with rfl | rfl | rfl <;> rfl, ce_chs] at h1
    refine pk_le 3 i (fun z => absurd z (by omega)) (fun _ => ce_inw (fun c => br_t rfl (nm_r (nI_1 i) (hw (mk, a2, a3, a4, a5, a6, a7) ⟨E, ?_, h3, h4, h5⟩))) (fun c => br_f (by decide) ?_))
    · rw [if_pos c] at h1
      exact h1
    · rw [if_neg c] at h1
      cases hc : ce_ac L i E with
      | none => rw [hc] at h1; simp at h1
      | some E' =>
        rw [hc] at h1
        exact ce_choice hs hi h3 (by omega) h4 h5 hL hc (fun mk a2 a3 a4 a5 a6 a7 q1 q2 q3 => nm_r (nI_1 i) (hw (mk, a2, a3, a4, a5, a6, a7) ⟨E', h1, q1, q2, q3⟩))
theorem ce_33 {post : St2 → Prop} {s : Nat} {own other : Int32} {Ef : List ce_Ed} {L : Nat → Int64} (hs : s < 2) (hL : ∀ j, j < 9 → (a8 j).toInt64 = L j) (h : ce_chs other L [1, 2] (ce_ini own L [0, 1, 2] [] ++ [(0, 0, 0, 1, ce_nb own)]) = some Ef) (h2 : a2 s = nI 0)
    (hp : ∀ mk a2 a3 a4 a5 a6 a7, (ce_dl Ef []).length ≤ 24 → a2 s = nI (ce_dl Ef []).length → ce_at a3 a4 (24 * s) (ce_dl Ef []) → post (rs, cs, mk, os, ts, li, lc, ft, fb, a1, a2, a3, a4, a5, a6, a7, a8, a9, a10)) :
    ∃ n, wX_makeCone_33 post (nI s) own other (nI (24 * s)) 0 n 0 rs cs mk os ts li lc ft fb a1 a2 a3 a4 a5 a6 a7 a8 a9 a10 := by
  generalize hI : ce_ini own L [0, 1, 2] [] = E0 at h
  refine pk_loop (σ := (Nat → Int32) × (Nat → Int64) × (Nat → Int32)) (fun n i s' => wX_makeCone_33 post (nI s) own other (nI (24 * s)) 0 n (nI i) rs cs mk os ts li lc ft fb a1 s'.1 s'.2.1 s'.2.2 a5 a6 a7 a8 a9 a10)
    (fun i s' => ∃ E, ce_ini own L ([0, 1, 2].drop i) E = E0 ∧ E.length ≤ i ∧ s'.1 s = nI E.length ∧ ce_at s'.2.1 s'.2.2 (24 * s) E)
    3 0 (a2, a3, a4) (by omega) ⟨[], hI, Nat.le_refl 0, h2, ce_at0⟩ ?_ ?_
  · rintro n ⟨a2, a3, a4⟩ ⟨E, h1, h3, h4, h5⟩
    have h4 : a2 s = nI E.length := h4
    have h5 : ce_at a3 a4 (24 * s) E := h5
    rw [show ([0, 1, 2] : List Nat).drop 3 = [] from rfl, ce_ini] at h1
    subst h1
    refine pk_le 3 3 (fun _ => ce_adde (c := 3) hs (by omega) (by omega) h4 (nm_r (nI_1 0) (ce_102 hs hL h (by rw [List.length_append, List.length_singleton]; omega) (by rw [List.length_append, List.length_singleton, pk_us]) (ce_push h5 (fun j hj => ce_new4o hj) (fun j hj => pk_un (by omega)) (fun t ht => (ce_new4 t ht).trans ?_) (pk_us.trans rfl) (ce_nbn own)) hp))) (fun z => absurd z (by omega))
    rcases (show t = 0 ∨ t = 1 ∨ t = 2 ∨ t = 3 by omega) with rfl | rfl | rfl | rfl <;> rfl
  · rintro n i ⟨a2, a3, a4⟩ hi ⟨E, h1, h3, h4, h5⟩ hw
    have h4 : a2 s = nI E.length := h4
    have h5 : ce_at a3 a4 (24 * s) E := h5
    rw [show ([0, 1, 2] : List Nat).drop i = i :: ([0, 1, 2] : List Nat).drop (i + 1) from by rcases (show i = 0 ∨ i = 1 ∨ i = 2 by omega) with rfl | rfl | rfl <;> rfl, ce_ini] at h1
    refine pk_le 3 i (fun z => absurd z (by omega)) (fun _ => ce_inw (fun c => br_t rfl (nm_r (nI_1 i) (hw (a2, a3, a4) ⟨E, ?_, by omega, h4, h5⟩))) (fun c => br_f (by decide) ⟨pk_in (3 * i + 0) 9 (by omega) (ce_x3 i 0), ce_adde hs (by omega) (by omega) h4 (nm_r (nI_1 i) (hw (upd a2 s (nI (E.length + 1)), vp_updL (vp_updL (ce_w a3 (4 * (24 * s + E.length)) 4 (fun _ => 0)) (4 * (24 * s + E.length) + i) 1) (4 * (24 * s + E.length) + 3) (a8 (3 * nI i + 0).toNatClampNeg).toInt64, upd a4 (24 * s + E.length) (ce_nb ((own &&& (((1 : Int32) <<< (nI i &&& 31)) ^^^ (-1))) ||| ((8 : Int32) <<< ((0 : Int32) &&& 31))))) ⟨E ++ [ce_ie own L i], ?_, ?_, ?_, ?_⟩))⟩))
    · rw [if_pos c] at h1
      exact h1
    · rw [if_neg c] at h1
      exact h1
    · rw [List.length_append, List.length_singleton]
      omega
    · rw [List.length_append, List.length_singleton]
      exact pk_us
    · dsimp only
      rw [pk_cl (3 * i + 0) (ce_x30 i), hL _ (by omega)]
      refine ce_push h5 (fun j hj => ce_new4o hj) (fun j hj => pk_un (by omega)) (fun t ht => (ce_new4 t ht).trans ?_) (pk_us.trans rfl) (ce_nbn _)
      rcases (show i = 0 ∨ i = 1 ∨ i = 2 by omega) with rfl | rfl | rfl <;> rcases (show t = 0 ∨ t = 1 ∨ t = 2 ∨ t = 3 by omega) with rfl | rfl | rfl | rfl <;> rfl
theorem ce_cone {post : St2 → Prop} {s : Nat} {own other : Int32} {E : List ce_Ed} {L : Nat → Int64} (hs : s < 2) (hL : ∀ j, j < 9 → (a8 j).toInt64 = L j) (ho : ¬ (other >>> ((0 : Int32) &&& 31)) &&& 1 = 0) (h : ce_mc own other L = some E)
    (hp : ∀ mk a2 a3 a4 a5 a6 a7, E.length ≤ 24 → a2 s = nI E.length → ce_at a3 a4 (24 * s) E → post (rs, cs, mk, own, other, li, lc, ft, fb, a1, a2, a3, a4, a5, a6, a7, a8, a9, a10)) :
    wpX_makeCone post (rs, cs, mk, os, ts, li, lc, ft, fb, a1, a2, a3, a4, a5, a6, a7, a8, a9, a10) (nI s) own other := by
  unfold ce_mc at h
  cases hc : ce_chs other L [1, 2] (ce_ini own L [0, 1, 2] [] ++ [(0, 0, 0, 1, ce_nb own)]) with
  | none => rw [hc] at h; simp at h
  | some Ef =>
    rw [hc] at h
    obtain rfl : ce_dl Ef [] = E := Option.some.inj h
    exact nm_r (ce_x24 s) (ce_low ho ⟨pk_in s 2 hs, nm_e (ce_33 hs hL hc (by rw [nI_clamp (by omega), pk_us]; rfl) hp)⟩)
end
end
section
/-! the walk: setLosses, findSure, repliesAmong, pure -/
theorem ce_xp (s i j : Nat) : ((9 : Int32) * nI s + (3 : Int32) * nI i) + nI j = nI (9 * s + 3 * i + j) := by
  rw [show (9 : Int32) = nI 9 from rfl, show (3 : Int32) = nI 3 from rfl, pk_mul, pk_mul, nI_add, nI_add]
theorem ce_xp0 (i j : Nat) : ((9 : Int32) * 0 + (3 : Int32) * nI i) + nI j = nI (9 * 0 + 3 * i + j) := ce_xp 0 i j
theorem ce_xpo (i j : Nat) : ((9 : Int32) * 1 + (3 : Int32) * nI i) + nI j = nI (9 * 1 + 3 * i + j) := ce_xp 1 i j
theorem ce_s1 {s : Nat} (hs : s < 2) : (1 : Int32) - nI s = nI (1 - s) := pk_sub (a := 1) (b := s) (by omega)
theorem ce_xp1 {s : Nat} (hs : s < 2) (i j : Nat) : ((9 : Int32) * (1 - nI s) + (3 : Int32) * nI i) + nI j = nI (9 * (1 - s) + 3 * i + j) := by
  rw [ce_s1 hs, ce_xp]
/-- a loss, as it is stored -/
def ce_lv (a : Nat → Int32) (s w i j : Nat) : Int32 := if w = 0 then ce_nb (10 + a (9 * (1 - s) + 3 * i + j)) else ce_nb (10 - a (9 * s + 3 * i + j))
def ce_T (a : Nat → Int32) (s w j : Nat) : Int32 := if s = 0 then ce_lv a s w (j / 3) (j % 3) else ce_lv a s w (j % 3) (j / 3)
theorem ce_Tc {a : Nat → Int32} {s w c o : Nat} (ho : o < 3) : ce_T a s w (3 * c + o) = if s = 0 then ce_lv a s w c o else ce_lv a s w o c := by
  unfold ce_T
  rw [show (3 * c + o) / 3 = c by omega, show (3 * c + o) % 3 = o by omega]
section
variable {rs cs mk os ts li lc : Int32} {ft fb : Int64} {a1 a2 : Nat → Int32} {a3 : Nat → Int64} {a4 : Nat → Int32} {a5 : Nat → Int64} {a6 : Nat → Int32} {a7 : Nat → Int64} {a8 a9 a10 : Nat → Int32}
theorem ce_38 {post : St2 → Prop} {J2 J10 : ce_J11} {s w c o i j : Nat} (hs : s < 2) (hw : w < 2) (hc : c < 3) (ho : o < 3) (hi : i < 3) (hj : j < 3)
    (H : J10 (nI (o + 1)) a1 a2 a3 a4 a5 a6 a7 (upd a8 (3 * c + o) (ce_lv a1 s w i j)) a9 a10) :
    wX_setLosses_38 post J2 J10 (nI s) (nI w) (nI c) (nI o) (nI i) (nI j) rs cs mk os ts li lc ft fb a1 a2 a3 a4 a5 a6 a7 a8 a9 a10 := by
  unfold ce_lv at H
  refine pk_eq w 0 (fun e => ⟨pk_in (9 * (1 - s) + 3 * i + j) 18 (by omega) (ce_xp1 hs i j), pk_in (3 * c + o) 9 (by omega) (ce_x3 c o), nm_e (nm_r (nI_1 o) ?_)⟩) (fun e => ⟨pk_in (9 * s + 3 * i + j) 18 (by omega) (ce_xp s i j), pk_in (3 * c + o) 9 (by omega) (ce_x3 c o), nm_e (nm_r (nI_1 o) ?_)⟩)
  · rw [if_pos e] at H
    rw [pk_cl (9 * (1 - s) + 3 * i + j) (ce_xp1 hs i j), pk_cl (3 * c + o) (ce_x3 c o)]
    exact H
  · rw [if_neg e] at H
    rw [pk_cl (9 * s + 3 * i + j) (ce_xp s i j), pk_cl (3 * c + o) (ce_x3 c o)]
    exact H
theorem ce_10 {post : St2 → Prop} {J2 : ce_J11} {s w c : Nat} (hs : s < 2) (hw : w < 2) (hc : c < 3) (h8 : ∀ j, j < 3 * c → a8 j = ce_T a1 s w j)
    (H : ∀ y : Nat → Int32, (∀ j, j < 3 * (c + 1) → y j = ce_T a1 s w j) → J2 (nI (c + 1)) a1 a2 a3 a4 a5 a6 a7 y a9 a10) :
    ∃ n, wX_setLosses_10 post J2 (nI s) (nI w) (nI c) rs cs mk os ts li lc ft fb n 0 a1 a2 a3 a4 a5 a6 a7 a8 a9 a10 := by
  refine pk_loop (fun n i y => wX_setLosses_10 post J2 (nI s) (nI w) (nI c) rs cs mk os ts li lc ft fb n (nI i) a1 a2 a3 a4 a5 a6 a7 y a9 a10) (fun i y => ∀ j, j < 3 * c + i → y j = ce_T a1 s w j) 3 0 a8 (by omega) h8 ?_ ?_
  · intro n y h
    exact pk_le 3 3 (fun _ => nm_r (nI_1 c) (H y (fun j hj => h j (by omega)))) (fun z => absurd z (by omega))
  · intro n i y hi h hw'
    have F : ∀ x, x = ce_T a1 s w (3 * c + i) → ∀ j, j < 3 * c + (i + 1) → upd y (3 * c + i) x j = ce_T a1 s w j := by
      intro x hx j hj
      by_cases e : j = 3 * c + i
      · rw [e, pk_us, hx]
      · rw [pk_un e]
        exact h j (by omega)
    rw [ce_Tc hi] at F
    refine pk_le 3 i (fun z => absurd z (by omega)) (fun _ => pk_eq s 0 (fun e => ?_) (fun e => ?_))
    · exact pk_eq s 0 (fun _ => ce_38 hs hw hc hi hc hi (hw' _ (F _ (by rw [if_pos e])))) (fun z => absurd e z)
    · exact pk_eq s 0 (fun z => absurd z e) (fun _ => ce_38 hs hw hc hi hi hc (hw' _ (F _ (by rw [if_neg e]))))
theorem ce_loss {post : St2 → Prop} {s w : Nat} (hs : s < 2) (hw : w < 2) (hp : ∀ y : Nat → Int32, (∀ j, j < 9 → y j = ce_T a1 s w j) → post (rs, cs, mk, os, ts, li, lc, ft, fb, a1, a2, a3, a4, a5, a6, a7, y, a9, a10)) :
    wpX_setLosses post (rs, cs, mk, os, ts, li, lc, ft, fb, a1, a2, a3, a4, a5, a6, a7, a8, a9, a10) (nI s) (nI w) := by
  refine pk_loop (fun n i y => wX_setLosses_2 post (nI s) (nI w) rs cs mk os ts li lc ft fb n (nI i) a1 a2 a3 a4 a5 a6 a7 y a9 a10) (fun i y => ∀ j, j < 3 * i → y j = ce_T a1 s w j) 3 0 a8 (by omega) (fun j hj => absurd hj (by omega)) ?_ ?_
  · intro n y h
    exact pk_le 3 3 (fun _ => hp y h) (fun z => absurd z (by omega))
  · intro n i y hi h hw'
    exact pk_le 3 i (fun z => absurd z (by omega)) (fun _ => ce_10 hs hw hi h hw')
theorem ce_52 {post : St2 → Prop} {s : Nat} {E : List ce_Ed} {ef : ce_Ed} {d : Int64} (hs : s < 2) (hN : E.length ≤ 24) (h1 : 0 < E.length) (h2 : a2 s = nI E.length) (hE : ce_at a3 a4 (24 * s) E) (hf : ce_fs (E.drop 1) (E.getD 0 ce_d) = ef)
    (hd : ce_cd (10 * ce_sum ef - ce_c ef 3) (ce_sum ef) = some d) (h0 : ¬ d = 0) (hp : post (rs, cs, mk, os, ts, li, lc, (10 * ce_sum ef - ce_c ef 3) / d, ce_sum ef / d, a1, a2, a3, a4, a5, a6, a7, a8, a9, a10)) :
    ∃ n, wX_findSure_52 post (nI s) rs cs mk os ts li lc ft fb a1 a2 a3 a4 a5 a6 a7 a8 a9 a10 n (nI (24 * s + 0)) (nI (24 * s + 1)) := by
  have hx : (24 : Int32) * nI s + a2 (nI s).toNatClampNeg = nI (24 * s + E.length) := by
    rw [nI_clamp (by omega), h2, ce_x24, nI_add]
  have hsum : ∀ q, q < E.length → (a3 (4 * (24 * s + q)) + a3 (4 * (24 * s + q) + 1)) + a3 (4 * (24 * s + q) + 2) = ce_sum (E.getD q ce_d) := by
    intro q hq
    have p1 := (hE q hq).1
    rw [show a3 (4 * (24 * s + q)) = ce_c (E.getD q ce_d) 0 from p1 0 (by omega), p1 1 (by omega), p1 2 (by omega)]
    rfl
  refine pk_loop (σ := Nat) (fun n i q => wX_findSure_52 post (nI s) rs cs mk os ts li lc ft fb a1 a2 a3 a4 a5 a6 a7 a8 a9 a10 n (nI (24 * s + q)) (nI (24 * s + i))) (fun i q => q < E.length ∧ ce_fs (E.drop i) (E.getD q ce_d) = ef) E.length 1 0 h1 ⟨h1, hf⟩ ?_ ?_
  · rintro n q ⟨hq, h⟩
    rw [List.drop_of_length_le (by omega), ce_fs] at h
    refine ⟨pk_in s 2 hs, pk_le (24 * s + E.length) (24 * s + E.length) (fun _ => ce_sumw (by omega) ⟨pk_in (4 * (24 * s + q) + 3) 192 (by omega) (ce_x43 _), nm_e ?_⟩) (fun z => absurd z (by omega)) hx⟩
    rw [hsum q hq, pk_cl (4 * (24 * s + q) + 3) (ce_x43 _), (hE q hq).1 3 (by omega), h]
    exact ce_cdw hd ⟨h0, nm_e ⟨h0, nm_e hp⟩⟩
  · rintro n i q hi ⟨hq, h⟩ hw
    rw [ce_drop hi, ce_fs] at h
    refine ⟨pk_in s 2 hs, pk_le (24 * s + E.length) (24 * s + i) (fun z => absurd z (by omega)) (fun _ => ⟨pk_in (4 * (24 * s + i) + 3) 192 (by omega) (ce_x43 _), ce_sumw (by omega) ⟨pk_in (4 * (24 * s + q) + 3) 192 (by omega) (ce_x43 _), ce_sumw (by omega) ?_⟩⟩) hx⟩
    rw [hsum q hq, hsum i hi, pk_cl (4 * (24 * s + q) + 3) (ce_x43 _), pk_cl (4 * (24 * s + i) + 3) (ce_x43 _), (hE q hq).1 3 (by omega), (hE i hi).1 3 (by omega)]
    by_cases c : ce_c (E.getD q ce_d) 3 * ce_sum (E.getD i ce_d) ≤ ce_c (E.getD i ce_d) 3 * ce_sum (E.getD q ce_d)
    · rw [if_pos c] at h
      exact br_t c (nm_r (nI_1 _) (hw q ⟨hq, h⟩))
    · rw [if_neg c] at h
      exact br_f c (nm_r (nI_1 _) (hw i ⟨hi, h⟩))
theorem ce_cho {post : Int32 → Prop} {s : Nat} (hs : s < 2) (hp : post (if s = 0 then rs else cs)) : wpX_choicesOf post (rs, cs, mk, os, ts, li, lc, ft, fb, a1, a2, a3, a4, a5, a6, a7, a8, a9, a10) (nI s) := by
  refine pk_eq s 0 (fun e => ?_) (fun e => ?_)
  · rw [if_pos e] at hp
    exact hp
  · rw [if_neg e] at hp
    exact hp
/-- findSure -/
theorem ce_find {post : St2 → Prop} {s m n r c : Nat} {E : List ce_Ed} {x : Int64 × Int64} {L : Nat → Int64} (hs : s < 2) (hm : m = if s = 0 then r else c) (hn : n = if s = 0 then c else r) (hL : ∀ j, j < 9 → (ce_T a1 s 1 j).toInt64 = L j)
    (ho : ¬ (ce_set n >>> ((0 : Int32) &&& 31)) &&& 1 = 0) (h : ce_mc (ce_set m) (ce_set n) L = some E) (hx : ce_sure E = some x)
    (hp : ∀ mk os ts a2 a3 a4 a5 a6 a7 a8, post (nI r, nI c, mk, os, ts, 0, lc, x.1, x.2, a1, a2, a3, a4, a5, a6, a7, a8, a9, a10)) :
    wpX_findSure post (nI r, nI c, mk, os, ts, li, lc, ft, fb, a1, a2, a3, a4, a5, a6, a7, a8, a9, a10) (nI s) := by
  refine ce_loss (w := 1) hs (by omega) (fun y hy => ce_cho hs (nm_e ?_))
  have e1 : (if s = 0 then nI r else nI c) = nI m := by
    rw [hm]
    by_cases e : s = 0
    · rw [if_pos e, if_pos e]
    · rw [if_neg e, if_neg e]
  have e2 : (if 1 - s = 0 then nI r else nI c) = nI n := by
    rw [hn]
    by_cases e : s = 0
    · rw [if_pos e, if_neg (by omega)]
    · rw [if_neg e, if_pos (by omega)]
  rw [e1, ce_s1 hs]
  refine ce_cho (by omega) (nm_e ?_)
  rw [e2]
  refine ce_cone hs (fun j hj => by rw [hy j hj]; exact hL j hj) ho h (fun mk a2 a3 a4 a5 a6 a7 q1 q2 q3 => nm_r (ce_x24 s) (nm_r (nI_1 _) ?_))
  cases E with
  | nil => rw [ce_sure] at hx; simp at hx
  | cons e R =>
    rw [ce_sure] at hx
    cases hd : ce_cd (10 * ce_sum (ce_fs R e) - ce_c (ce_fs R e) 3) (ce_sum (ce_fs R e)) with
    | none => rw [hd] at hx; simp at hx
    | some d =>
      rw [hd] at hx
      dsimp only at hx
      by_cases c0 : d = 0
      · rw [if_pos c0] at hx
        simp at hx
      · rw [if_neg c0] at hx
        obtain rfl := Option.some.inj hx
        exact ce_52 hs q1 (Nat.succ_pos _) q2 q3 rfl hd c0 (hp _ _ _ _ _ _ _ _ _ _)
theorem ce_r50 {post : Int32 → St2 → Prop} {s : Nat} {other : Int32} {E : List ce_Ed} (hs : s < 2) (hN : E.length ≤ 24) (h2 : a2 s = nI E.length) (hE : ce_at a3 a4 (24 * s) E)
    (hp : post (ce_rep other E) (rs, cs, mk, os, ts, li, lc, ft, fb, a1, a2, a3, a4, a5, a6, a7, a8, a9, a10)) :
    ∃ n, wX_repliesAmong_50 post (nI s) other rs cs mk os ts li lc ft fb a1 a2 a3 a4 a5 a6 a7 a8 a9 a10 n 0 0 := by
  refine pk_loop (σ := Int32) (fun n i x => wX_repliesAmong_50 post (nI s) other rs cs mk os ts li lc ft fb a1 a2 a3 a4 a5 a6 a7 a8 a9 a10 n x (nI i)) (fun i x => ce_or (E.drop i) x = ce_or E 0) E.length 0 0 (by omega) rfl ?_ ?_
  · intro n x h
    have h' : ce_or (E.drop E.length) x = ce_or E 0 := h
    rw [List.drop_of_length_le (by omega), ce_or] at h'
    subst h'
    exact ⟨pk_in s 2 hs, pk_le E.length E.length (fun _ => hp) (fun z => absurd z (by omega)) (by rw [nI_clamp (by omega)]; exact h2)⟩
  · intro n i x hi h hw
    have h' : ce_or (E.drop i) x = ce_or E 0 := h
    rw [ce_drop hi, ce_or] at h'
    refine ⟨pk_in s 2 hs, pk_le E.length i (fun z => absurd z (by omega)) (fun _ => ⟨pk_in (24 * s + i) 48 (by omega) (by rw [ce_x24, nI_add]), nm_r (e' := x ||| ce_t (E.getD i ce_d)) ?_ (nm_r (nI_1 i) (hw _ h'))⟩) (by rw [nI_clamp (by omega)]; exact h2)⟩
    rw [pk_cl (24 * s + i) (by rw [ce_x24, nI_add]), (hE i hi).2.1]
/-- replies -/
theorem ce_repl {post : Int32 → St2 → Prop} {s m n r c : Nat} {E : List ce_Ed} {L : Nat → Int64} (hs : s < 2) (hm : m = if s = 0 then c else r) (hn : n = if s = 0 then r else c) (hL : ∀ j, j < 9 → (ce_T a1 (1 - s) 0 j).toInt64 = L j)
    (ho : ¬ (ce_set n >>> ((0 : Int32) &&& 31)) &&& 1 = 0) (h : ce_mc (ce_set m) (ce_set n) L = some E)
    (hp : ∀ u, post (ce_rep (ce_set n) E) u) :
    wpX_repliesAmong post (rs, cs, mk, os, ts, li, lc, ft, fb, a1, a2, a3, a4, a5, a6, a7, a8, a9, a10) (ce_set r) (ce_set c) (nI s) := by
  refine nm_r (ce_s1 hs) (ce_loss (w := 0) (by omega) (by omega) (fun y hy => ?_))
  have key : wX_repliesAmong_32 post (nI (1 - s)) (ce_set m) (ce_set n) rs cs mk os ts li lc ft fb a1 a2 a3 a4 a5 a6 a7 y a9 a10 :=
    ce_cone (by omega) (fun j hj => by rw [hy j hj]; exact hL j hj) ho h (fun mk a2 a3 a4 a5 a6 a7 q1 q2 q3 => ce_r50 (by omega) q1 q2 q3 (hp _))
  by_cases e : s = 0
  · rw [if_pos e] at hm hn
    subst hm hn
    exact pk_eq s 0 (fun _ => pk_eq s 0 (fun _ => key) (fun z => absurd e z)) (fun z => absurd e z)
  · rw [if_neg e] at hm hn
    subst hm hn
    exact pk_eq s 0 (fun z => absurd z e) (fun _ => pk_eq s 0 (fun z => absurd z e) (fun _ => key))
/-! pure, over a table of zeros -/
theorem ce_br {post : Int32 → Prop} {r i j : Nat} (hr : r ≤ 3) (hi : i < 3) (hj : j < 3) (hz : ∀ k, k < 18 → a1 k = 0) (hp : post 1) : wpX_isBestRow post (nI r, cs, mk, os, ts, li, lc, ft, fb, a1, a2, a3, a4, a5, a6, a7, a8, a9, a10) (nI i) (nI j) := by
  refine pk_loop (σ := Unit) (fun n k _ => wX_isBestRow_2 post (nI i) (nI j) (nI r) cs mk os ts li lc ft fb a1 a2 a3 a4 a5 a6 a7 a8 a9 a10 n (nI k)) (fun _ _ => True) r 0 () (by omega) trivial ?_ ?_
  · intro n _ _
    exact pk_le r r (fun _ => hp) (fun z => absurd z (by omega))
  · intro n k _ hk _ hw
    refine pk_le r k (fun z => absurd z (by omega)) (fun _ => ⟨pk_in (9 * 0 + 3 * k + j) 18 (by omega) (ce_xp0 k j), pk_in (9 * 0 + 3 * i + j) 18 (by omega) (ce_xp0 i j), br_t ?_ (nm_r (nI_1 k) (hw () trivial))⟩)
    rw [hz _ (by rw [pk_cl (9 * 0 + 3 * k + j) (ce_xp0 k j)]; omega), hz _ (by rw [pk_cl (9 * 0 + 3 * i + j) (ce_xp0 i j)]; omega)]
    decide
theorem ce_bc {post : Int32 → Prop} {c i j : Nat} (hc : c ≤ 3) (hi : i < 3) (hj : j < 3) (hz : ∀ k, k < 18 → a1 k = 0) (hp : post 1) : wpX_isBestColumn post (rs, nI c, mk, os, ts, li, lc, ft, fb, a1, a2, a3, a4, a5, a6, a7, a8, a9, a10) (nI i) (nI j) := by
  refine pk_loop (σ := Unit) (fun n k _ => wX_isBestColumn_2 post (nI i) (nI j) rs (nI c) mk os ts li lc ft fb a1 a2 a3 a4 a5 a6 a7 a8 a9 a10 n (nI k)) (fun _ _ => True) c 0 () (by omega) trivial ?_ ?_
  · intro n _ _
    exact pk_le c c (fun _ => hp) (fun z => absurd z (by omega))
  · intro n k _ hk _ hw
    refine pk_le c k (fun z => absurd z (by omega)) (fun _ => ⟨pk_in (9 * 1 + 3 * i + k) 18 (by omega) (ce_xpo i k), pk_in (9 * 1 + 3 * i + j) 18 (by omega) (ce_xpo i j), br_t ?_ (nm_r (nI_1 k) (hw () trivial))⟩)
    rw [hz _ (by rw [pk_cl (9 * 1 + 3 * i + k) (ce_xpo i k)]; omega), hz _ (by rw [pk_cl (9 * 1 + 3 * i + j) (ce_xpo i j)]; omega)]
    decide
def ce_p14 (i : Nat) (x : Int32) : Nat → Int32
  | 0 => x
  | j + 1 => ce_p14 i x j ||| ((1 : Int32) <<< (((3 : Int32) * nI i + nI j) &&& 31))
def ce_p4 (c : Nat) : Nat → Int32
  | 0 => 0
  | i + 1 => ce_p14 i (ce_p4 c i) c
theorem ce_14 {post : Int32 → Prop} {J4 : Int32 → Int32 → Prop} {r c i : Nat} {x : Int32} (hr : r ≤ 3) (hc : c ≤ 3) (hi : i < 3) (hz : ∀ k, k < 18 → a1 k = 0) (hj : J4 (ce_p14 i x c) (nI (i + 1))) :
    ∃ n, wX_pure_14 post J4 (nI i) (nI r) (nI c) mk os ts li lc ft fb a1 a2 a3 a4 a5 a6 a7 a8 a9 a10 n x 0 := by
  refine pk_loop (σ := Int32) (fun n j y => wX_pure_14 post J4 (nI i) (nI r) (nI c) mk os ts li lc ft fb a1 a2 a3 a4 a5 a6 a7 a8 a9 a10 n y (nI j)) (fun j y => y = ce_p14 i x j) c 0 x (by omega) rfl ?_ ?_
  · intro n y h
    obtain rfl : y = ce_p14 i x c := h
    exact pk_le c c (fun _ => nm_r (nI_1 i) hj) (fun z => absurd z (by omega))
  · intro n j y hj' h hw
    obtain rfl : y = ce_p14 i x j := h
    exact pk_le c j (fun z => absurd z (by omega)) (fun _ => ce_br hr hi (by omega) hz (br_f (by decide) (ce_bc hc hi (by omega) hz (br_f (by decide) (nm_e (nm_r (nI_1 j) (hw _ rfl)))))))
theorem ce_pure {post : Int32 → Prop} {r c : Nat} (hr : r ≤ 3) (hc : c ≤ 3) (hz : ∀ k, k < 18 → a1 k = 0) (hp : post (ce_p4 c r)) : wpX_pure post (nI r, nI c, mk, os, ts, li, lc, ft, fb, a1, a2, a3, a4, a5, a6, a7, a8, a9, a10) := by
  refine pk_loop (σ := Int32) (fun n i y => wX_pure_4 post (nI r) (nI c) mk os ts li lc ft fb a1 a2 a3 a4 a5 a6 a7 a8 a9 a10 n y (nI i)) (fun i y => y = ce_p4 c i) r 0 0 (by omega) rfl ?_ ?_
  · intro n y h
    obtain rfl : y = ce_p4 c r := h
    exact pk_le r r (fun _ => hp) (fun z => absurd z (by omega))
  · intro n i y hi h hw
    obtain rfl : y = ce_p4 c i := h
    exact pk_le r i (fun z => absurd z (by omega)) (fun _ => ce_14 hr hc (by omega) hz (hw _ rfl))
end
end
section
/-! the table at work: what the class answers once the table is laid -/
def ce_v (w : Nat) : Int32 := nI w - 9
def ce_tab (s k : Nat) (x : Int32) : Nat → Int32 := fun j => if j = 9 * s + k then x else 0
def ce_mi (s k : Nat) : Nat := if s = 0 then k / 3 else k % 3
def ce_oj (s k : Nat) : Nat := if s = 0 then k % 3 else k / 3
theorem ce_L1 : ∀ s, s < 2 → ∀ k, k < 9 → ∀ w, w < 19 → ∀ j, j < 9 → (ce_T (ce_tab s k (ce_v w)) s 1 j).toInt64 = ce_L (3 * ce_mi s k + ce_oj s k) (18 - w + 1) j := by decide +kernel
theorem ce_L2 : ∀ s, s < 2 → ∀ k, k < 9 → ∀ w, w < 19 → ∀ j, j < 9 → (ce_T (ce_tab s k (ce_v w)) (1 - s) 0 j).toInt64 = ce_L (3 * ce_oj s k + ce_mi s k) (w + 1) j := by decide +kernel
theorem ce_v1 : ∀ w, w < 19 → (10 : Int32) - nI (18 - w + 1) = ce_v w := by decide +kernel
theorem ce_v2 : ∀ w, w < 19 → nI (w + 1) - 10 = ce_v w := by decide +kernel
theorem ce_v0 : ∀ w, w < 19 → ce_v w = 0 → w = 9 := by decide +kernel
theorem ce_vb : ∀ w, w < 19 → (ce_v w).toInt8.toInt32 = ce_v w := by decide +kernel
theorem ce_odd {n : Nat} (h : 1 ≤ n) (h' : n ≤ 3) : ¬ (ce_set n >>> ((0 : Int32) &&& 31)) &&& 1 = 0 := by
  rcases (show n = 1 ∨ n = 2 ∨ n = 3 by omega) with rfl | rfl | rfl <;> decide
theorem ce_get {m n c o u : Nat} (hm : 1 ≤ m) (hm' : m ≤ 3) (hn : 1 ≤ n) (hn' : n ≤ 3) (hc : c < m) (ho : o < n) (hu : u < 19) : ce_ok1 m n c o (u + 1) = true := by
  have key : ce_ok2 m n = true := by
    rcases (show m = 1 ∨ m = 2 ∨ m = 3 by omega) with rfl | rfl | rfl
    · rcases (show n = 1 ∨ n = 2 ∨ n = 3 by omega) with rfl | rfl | rfl
      · exact ce_t11
      · exact ce_t12
      · exact ce_t13
    · rcases (show n = 1 ∨ n = 2 ∨ n = 3 by omega) with rfl | rfl | rfl
      · exact ce_t21
      · exact ce_t22
      · exact ce_t23
    · rcases (show n = 1 ∨ n = 2 ∨ n = 3 by omega) with rfl | rfl | rfl
      · exact ce_t31
      · exact ce_t32
      · exact ce_t33
  unfold ce_ok2 at key
  exact List.all_eq_true.mp (List.all_eq_true.mp (List.all_eq_true.mp key c (List.mem_range.mpr hc)) o (List.mem_range.mpr ho)) u (List.mem_range.mpr hu)
theorem ce_of {m n c o u : Nat} (h : ce_ok1 m n c o u = true) : ∃ (E : List ce_Ed) (x : Int64 × Int64), ce_mc (ce_set m) (ce_set n) (ce_L (3 * c + o) u) = some E ∧ ce_sure E = some x ∧ x.1.toInt32 = ce_lawS (10 - nI u) (nI m) (nI n) ∧ x.2.toInt32 = 1 ∧ ce_rep (ce_set n) E = ce_lawR (nI u - 10) (nI n) (nI m) ((1 : Int32) <<< (nI o &&& 31)) := by
  unfold ce_ok1 at h
  cases hE : ce_mc (ce_set m) (ce_set n) (ce_L (3 * c + o) u) with
  | none => rw [hE] at h; simp at h
  | some E =>
    rw [hE] at h
    dsimp only at h
    cases hx : ce_sure E with
    | none => rw [hx] at h; simp at h
    | some x =>
      rw [hx] at h
      dsimp only at h
      simp only [Bool.and_eq_true, decide_eq_true_eq] at h
      exact ⟨E, x, rfl, hx, h.1.1, h.1.2, h.2⟩
theorem ce_lawR0 (mine others own : Int32) : ce_lawR 0 mine others own = ((1 : Int32) <<< (mine &&& 31)) - 1 := by
  unfold ce_lawR
  by_cases h : 1 < others
  · rw [if_pos h]
  · rw [if_neg h, if_pos rfl]
section
variable {rs cs mk os ts li lc : Int32} {ft fb : Int64} {a1 a2 : Nat → Int32} {a3 : Nat → Int64} {a4 : Nat → Int32} {a5 : Nat → Int64} {a6 : Nat → Int32} {a7 : Nat → Int64} {a8 a9 a10 : Nat → Int32}
theorem ce_side {post : Int32 → Prop} {s : Nat} (hs : s < 2) (hp : post 1) : wpX_isSide post (rs, cs, mk, os, ts, li, lc, ft, fb, a1, a2, a3, a4, a5, a6, a7, a8, a9, a10) (nI s) := by
  rcases (show s = 0 ∨ s = 1 by omega) with rfl | rfl
  · exact br_t rfl hp
  · exact br_f (by decide) (br_t rfl hp)
theorem ce_topw {post : Int32 → St2 → Prop} {s m n r c : Nat} {E : List ce_Ed} {x : Int64 × Int64} {L : Nat → Int64} (hs : s < 2) (hm : m = if s = 0 then r else c) (hn : n = if s = 0 then c else r) (hL : ∀ j, j < 9 → (ce_T a1 s 1 j).toInt64 = L j)
    (ho : ¬ (ce_set n >>> ((0 : Int32) &&& 31)) &&& 1 = 0) (h : ce_mc (ce_set m) (ce_set n) L = some E) (hx : ce_sure E = some x)
    (hp : ∀ mk os ts a2 a3 a4 a5 a6 a7 a8, post x.1.toInt32 (nI r, nI c, mk, os, ts, 0, lc, x.1, x.2, a1, a2, a3, a4, a5, a6, a7, a8, a9, a10)) :
    wpX_sureTop post (nI r, nI c, mk, os, ts, li, lc, ft, fb, a1, a2, a3, a4, a5, a6, a7, a8, a9, a10) (nI s) := by
  unfold wpX_sureTop
  dsimp only
  refine ce_side hs (br_f (show ¬ (1 : Int32) = 0 by decide) ?_)
  exact ce_find hs hm hn hL ho h hx (fun mk os ts a2 a3 a4 a5 a6 a7 a8 => hp mk os ts a2 a3 a4 a5 a6 a7 a8)
theorem ce_botw {post : Int32 → St2 → Prop} {s m n r c : Nat} {E : List ce_Ed} {x : Int64 × Int64} {L : Nat → Int64} (hs : s < 2) (hm : m = if s = 0 then r else c) (hn : n = if s = 0 then c else r) (hL : ∀ j, j < 9 → (ce_T a1 s 1 j).toInt64 = L j)
    (ho : ¬ (ce_set n >>> ((0 : Int32) &&& 31)) &&& 1 = 0) (h : ce_mc (ce_set m) (ce_set n) L = some E) (hx : ce_sure E = some x)
    (hp : ∀ mk os ts a2 a3 a4 a5 a6 a7 a8, post x.2.toInt32 (nI r, nI c, mk, os, ts, 0, lc, x.1, x.2, a1, a2, a3, a4, a5, a6, a7, a8, a9, a10)) :
    wpX_sureBottom post (nI r, nI c, mk, os, ts, li, lc, ft, fb, a1, a2, a3, a4, a5, a6, a7, a8, a9, a10) (nI s) := by
  unfold wpX_sureBottom
  dsimp only
  refine ce_side hs (br_f (show ¬ (1 : Int32) = 0 by decide) ?_)
  exact ce_find hs hm hn hL ho h hx (fun mk os ts a2 a3 a4 a5 a6 a7 a8 => hp mk os ts a2 a3 a4 a5 a6 a7 a8)
theorem ce_repw {post : Int32 → St2 → Prop} {s m n r c : Nat} {E : List ce_Ed} {L : Nat → Int64} (hs : s < 2) (hm : m = if s = 0 then c else r) (hn : n = if s = 0 then r else c) (hL : ∀ j, j < 9 → (ce_T a1 (1 - s) 0 j).toInt64 = L j)
    (ho : ¬ (ce_set n >>> ((0 : Int32) &&& 31)) &&& 1 = 0) (h : ce_mc (ce_set m) (ce_set n) L = some E)
    (hp : ∀ u, post (ce_rep (ce_set n) E) u) :
    wpX_replies post (nI r, nI c, mk, os, ts, li, lc, ft, fb, a1, a2, a3, a4, a5, a6, a7, a8, a9, a10) (nI s) := by
  unfold wpX_replies
  dsimp only
  refine ce_side hs (br_f (show ¬ (1 : Int32) = 0 by decide) ?_)
  exact ce_repl hs hm hn hL ho h (fun u => hp u)
theorem ce_416 {post : Int32 → St0 → Prop} {mc ms kc ks s m n r c : Nat} {E : List ce_Ed} {L : Nat → Int64} {rep : Int32} (hs : s < 2) (hm : m = if s = 0 then c else r) (hn : n = if s = 0 then r else c) (hL : ∀ j, j < 9 → (ce_T a1 (1 - s) 0 j).toInt64 = L j)
    (ho : ¬ (ce_set n >>> ((0 : Int32) &&& 31)) &&& 1 = 0) (h : ce_mc (ce_set m) (ce_set n) L = some E) (hr : ce_rep (ce_set n) E = rep) (hp : post 1 ()) :
    wL_lawOf_416 post mc ms (nI s) 1 rep kc ks (nI r) (nI c) mk os ts li lc ft fb a1 a2 a3 a4 a5 a6 a7 a8 a9 a10 := by
  unfold wL_lawOf_416
  exact ce_repw hs hm hn hL ho h (fun u => br_f (show ¬ (1 : Int32) = 0 by decide) (br_t hr hp))
theorem ce_rest {post : Int32 → St0 → Prop} {mc ms kc ks s k w r c m n : Nat} {own z all : Int32} (hs : s < 2) (hr : 1 ≤ r) (hr' : r ≤ 3) (hc : 1 ≤ c) (hc' : c ≤ 3) (hk : k / 3 < r) (hk' : k % 3 < c) (hw : w < 19)
    (hm : m = if s = 0 then r else c) (hn : n = if s = 0 then c else r) (hown : w = 9 ∨ own = (1 : Int32) <<< (nI (ce_mi s k) &&& 31)) (hall : all = ce_p4 c r) (h1 : a1 = ce_tab s k (ce_v w)) (hp : post 1 ()) :
    wL_lawOf_349 post mc ms (nI s) 1 (ce_v w) (ce_lawS (ce_v w) (nI m) (nI n)) (ce_lawR (ce_v w) (nI m) (nI n) own) all z z kc ks (nI r) (nI c) mk os ts li lc ft fb a1 a2 a3 a4 a5 a6 a7 a8 a9 a10 := by
  have hm3 : 1 ≤ m ∧ m ≤ 3 ∧ 1 ≤ n ∧ n ≤ 3 ∧ ce_mi s k < m ∧ ce_oj s k < n := by
    unfold ce_mi ce_oj
    rw [hm, hn]
    by_cases e : s = 0
    · rw [if_pos e, if_pos e, if_pos e, if_pos e]
      omega
    · rw [if_neg e, if_neg e, if_neg e, if_neg e]
      omega
  obtain ⟨m1, m3, n1, n3, hmi, hoj⟩ := hm3
  obtain ⟨E1, x, e1, e2, e3, e4, _⟩ := ce_of (ce_get (u := 18 - w) m1 m3 n1 n3 hmi hoj (by omega))
  obtain ⟨E2, _, d1, _, _, _, d5⟩ := ce_of (ce_get (u := w) n1 n3 m1 m3 hoj hmi hw)
  have L1 := ce_L1 s hs k (by omega) w hw
  have L2 := ce_L2 s hs k (by omega) w hw
  rw [← h1] at L1 L2
  rw [ce_v1 w hw] at e3
  rw [ce_v2 w hw] at d5
  have hrep : ce_rep (ce_set m) E2 = ce_lawR (ce_v w) (nI m) (nI n) own := by
    rw [d5]
    rcases hown with h9 | h9
    · subst h9
      rw [show ce_v 9 = 0 from by decide, ce_lawR0, ce_lawR0]
    · rw [h9]
  have o1 := ce_odd n1 n3
  have o2 := ce_odd m1 m3
  have n1 : ¬ (1 : Int32) = 0 := by decide
  refine br_t rfl (ce_topw hs hm hn L1 o1 e1 e2 (fun mk os ts a2 a3 a4 a5 a6 a7 a8 => br_f n1 (br_t e3 (ce_botw hs hm hn L1 o1 e1 e2 (fun mk os ts a2 a3 a4 a5 a6 a7 a8 => br_f n1 (br_t e4 ?_))))))
  by_cases c0 : ce_v w = 0
  · refine br_t c0 (ce_pure hr' hc' (fun j hj => ?_) (br_t hall.symm (ce_416 hs hn hm L2 o2 d1 hrep hp)))
    rw [h1]
    unfold ce_tab
    by_cases e : j = 9 * s + k
    · rw [if_pos e, c0]
    · rw [if_neg e]
  · exact br_f c0 (ce_416 hs hn hm L2 o2 d1 hrep hp)
end
end
section
/-! the law -/
/-- a number clamped to 1..3 -/
def ce_cm (p : Int32) (r : Nat) : Prop := (1 ≤ p ∧ p ≤ 3 ∧ p = nI r) ∨ (1 ≤ p ∧ ¬ p ≤ 3 ∧ r = 3) ∨ (¬ 1 ≤ p ∧ r = 1)
theorem ce_cme (p : Int32) : ∃ r, 1 ≤ r ∧ r ≤ 3 ∧ ce_cm p r := by
  by_cases h1 : 1 ≤ p
  · by_cases h3 : p ≤ 3
    · have h0 : ¬ p < 0 := by
        intro z
        have a := Int32.le_iff_toInt_le.mp h1
        have b := Int32.lt_iff_toInt_lt.mp z
        rw [show (1 : Int32).toInt = 1 from by decide] at a
        rw [show (0 : Int32).toInt = 0 from by decide] at b
        omega
      obtain ⟨j, hj, rfl⟩ := nI_of2 (M := 3) (n := 3) (by decide) h0 h3
      refine ⟨j, ?_, hj, Or.inl ⟨h1, h3, rfl⟩⟩
      rcases Nat.eq_zero_or_pos j with e | e
      · subst e
        exact absurd h1 (by decide)
      · exact e
    · exact ⟨3, by omega, by omega, Or.inr (Or.inl ⟨h1, h3, rfl⟩)⟩
  · exact ⟨1, by omega, by omega, Or.inr (Or.inr ⟨h1, rfl⟩)⟩
theorem ce_initw {post : St2 → Prop} {p0 p1 : Int32} {r c : Nat} (hr : ce_cm p0 r) (hc : ce_cm p1 c)
    (hp : post (nI r, nI c, 0, 0, 0, 0, 0, 0, 0, (fun _ => 0), (fun _ => 0), (fun _ => 0), (fun _ => 0), (fun _ => 0), (fun _ => 0), (fun _ => 0), (fun _ => 0), (fun _ => 0), (fun _ => 0))) :
    wpX_init post 10 541 (0, 0, 0, 0, 0, 0, 0, 0, 0) p0 p1 := by
  have key : wX_init_104 post 10 541 p1 (nI r) 10 541 0 0 0 0 0 0 0 0 0 (fun _ => 0) (fun _ => 0) (fun _ => 0) (fun _ => 0) (fun _ => 0) (fun _ => 0) (fun _ => 0) (fun _ => 0) (fun _ => 0) (fun _ => 0) := by
    rcases hc with ⟨h1, h2, rfl⟩ | ⟨h1, h2, rfl⟩ | ⟨h1, rfl⟩
    · exact br_t h1 (br_t h2 hp)
    · exact br_t h1 (br_f h2 hp)
    · exact br_f h1 hp
  refine ⟨by omega, by omega, by omega, by omega, by omega, by omega, by omega, by omega, by omega, by omega, by omega, by omega, by omega, by omega, by omega, by omega, by omega, by omega, by omega, by omega, ?_⟩
  rcases hr with ⟨h1, h2, rfl⟩ | ⟨h1, h2, rfl⟩ | ⟨h1, rfl⟩
  · exact br_t h1 (br_t h2 key)
  · exact br_t h1 (br_f h2 key)
  · exact br_f h1 key
/-- is it a place, as the law says it -/
def ce_pl (y r c : Int32) : Int32 := if y < 0 then 0 else if 3 * r ≤ y then 0 else if c ≤ y - y / 3 * 3 then 0 else 1
def ce_put (pl y : Int32) : Int32 := if pl = 0 then 0 else if y < -9 then 0 else if 9 < y then 0 else 1
theorem ce_pl1 {y : Int32} {r c : Nat} (hr : r ≤ 3) (hc : c ≤ 3) (h : ¬ ce_pl y (nI r) (nI c) = 0) : ce_pl y (nI r) (nI c) = 1 ∧ ∃ k, k < 9 ∧ k / 3 < r ∧ k % 3 < c ∧ y = nI k := by
  unfold ce_pl at h ⊢
  by_cases h0 : y < 0
  · rw [if_pos h0] at h
    exact absurd rfl h
  · rw [if_neg h0] at h ⊢
    by_cases h1 : 3 * nI r ≤ y
    · rw [if_pos h1] at h
      exact absurd rfl h
    · rw [if_neg h1] at h ⊢
      by_cases h2 : nI c ≤ y - y / 3 * 3
      · rw [if_pos h2] at h
        exact absurd rfl h
      · rw [if_neg h2]
        obtain ⟨j, hj, rfl⟩ := nI_of h0
        rw [show (3 : Int32) * nI r = nI (3 * r) from pk_mul 3 r, nI_leI (by omega) hj] at h1
        rw [show nI j - nI j / 3 * 3 = nI (j % 3) from pk_rem (d := 3) hj (by omega) (by omega), nI_leI (by omega) (by omega)] at h2
        exact ⟨rfl, j, by omega, by omega, by omega, rfl⟩
section
variable {rs cs mk os ts li lc : Int32} {ft fb : Int64} {a1 a2 : Nat → Int32} {a3 : Nat → Int64} {a4 : Nat → Int32} {a5 : Nat → Int64} {a6 : Nat → Int32} {a7 : Nat → Int64} {a8 a9 a10 : Nat → Int32}
theorem ce_plw {post : Int32 → Prop} {r c : Nat} {y : Int32} (hr : r ≤ 3) (hp : post (ce_pl y (nI r) (nI c))) : wpX_isPlace post (nI r, nI c, mk, os, ts, li, lc, ft, fb, a1, a2, a3, a4, a5, a6, a7, a8, a9, a10) y := by
  have n3 : ¬ (3 : Int32) = 0 := by decide
  unfold ce_pl at hp
  by_cases h0 : y < 0
  · rw [if_pos h0] at hp
    exact br_t h0 hp
  · rw [if_neg h0] at hp
    refine br_f h0 ⟨n3, ?_⟩
    obtain ⟨j, hj, rfl⟩ := nI_of h0
    have e3 : (3 : Int32) * nI r = nI (3 * r) := pk_mul 3 r
    have ed : nI j / (3 : Int32) = nI (j / 3) := pk_div (d := 3) hj (by omega) (by omega)
    by_cases h1 : 3 * r ≤ j
    · rw [e3, if_pos (nI_le h1 hj)] at hp
      exact br_t (by rw [ed]; exact nI_le (by omega) (by omega)) hp
    · rw [e3, if_neg (nI_ge (by omega) (by omega))] at hp
      refine br_f (by rw [ed]; exact nI_ge (by omega) (by omega)) ⟨n3, ?_⟩
      by_cases h2 : nI c ≤ nI j - nI j / 3 * 3
      · rw [if_pos h2] at hp
        exact br_t h2 hp
      · rw [if_neg h2] at hp
        exact br_f h2 hp
theorem ce_noside {post : Int32 → Prop} {y : Int32} (h0 : ¬ y = 0) (h1 : ¬ y = 1) (hp : post 0) : wpX_isSide post (rs, cs, mk, os, ts, li, lc, ft, fb, a1, a2, a3, a4, a5, a6, a7, a8, a9, a10) y := br_f h0 (br_f h1 hp)
theorem ce_pay0 {post : Int32 → St2 → Prop} {r c s : Nat} {y v : Int32} (hs : s < 2) (hr : r ≤ 3) (h : ce_put (ce_pl y (nI r) (nI c)) v = 0) (hp : post 0 (nI r, nI c, mk, os, ts, li, lc, ft, fb, a1, a2, a3, a4, a5, a6, a7, a8, a9, a10)) :
    wpX_pay post (nI r, nI c, mk, os, ts, li, lc, ft, fb, a1, a2, a3, a4, a5, a6, a7, a8, a9, a10) (nI s) y v := by
  unfold wpX_pay
  dsimp only
  refine ce_side hs (br_f (show ¬ (1 : Int32) = 0 by decide) (ce_plw hr ?_))
  unfold ce_put at h
  by_cases c0 : ce_pl y (nI r) (nI c) = 0
  · exact br_t c0 hp
  · refine br_f c0 ?_
    rw [if_neg c0] at h
    by_cases c1 : v < -9
    · exact br_t c1 hp
    · refine br_f c1 ?_
      rw [if_neg c1] at h
      by_cases c2 : 9 < v
      · exact br_f (fun z => absurd c2 (Int32.not_lt.mpr z)) hp
      · rw [if_neg c2] at h
        exact absurd h (by decide)
theorem ce_pay1 {post : Int32 → St2 → Prop} {r c s k : Nat} {v : Int32} (hs : s < 2) (hr : r ≤ 3) (hk : k < 9) (h : ce_pl (nI k) (nI r) (nI c) = 1) (h1 : ¬ v < -9) (h2 : ¬ 9 < v) (hp : post 1 (nI r, nI c, mk, os, ts, 0, lc, ft, fb, upd a1 (9 * s + k) v.toInt8.toInt32, a2, a3, a4, a5, a6, a7, a8, a9, a10)) :
    wpX_pay post (nI r, nI c, mk, os, ts, li, lc, ft, fb, a1, a2, a3, a4, a5, a6, a7, a8, a9, a10) (nI s) (nI k) v := by
  have hi : (9 : Int32) * nI s + nI k = nI (9 * s + k) := by
    rw [show (9 : Int32) = nI 9 from rfl, pk_mul, nI_add]
  unfold wpX_pay
  dsimp only
  refine ce_side hs (br_f (show ¬ (1 : Int32) = 0 by decide) (ce_plw hr ?_))
  rw [h]
  refine br_f (show ¬ (1 : Int32) = 0 by decide) (br_f h1 (br_t (Int32.not_lt.mp h2) ⟨pk_in (9 * s + k) 18 (by omega) hi, nm_e ?_⟩))
  rw [pk_cl (9 * s + k) hi]
  exact hp
theorem ce_paid0 {post : Int32 → Prop} {r c s : Nat} {y : Int32} (hs : s < 2) (hr : r ≤ 3) (h : ce_pl y (nI r) (nI c) = 0) (hp : post (-1000000)) :
    wpX_paid post (nI r, nI c, mk, os, ts, li, lc, ft, fb, a1, a2, a3, a4, a5, a6, a7, a8, a9, a10) (nI s) y := by
  unfold wpX_paid
  dsimp only
  refine ce_side hs (br_f (show ¬ (1 : Int32) = 0 by decide) (ce_plw hr ?_))
  exact br_t h hp
theorem ce_paid1 {post : Int32 → Prop} {r c s k : Nat} (hs : s < 2) (hr : r ≤ 3) (hk : k < 9) (h : ce_pl (nI k) (nI r) (nI c) = 1) (hp : post (a1 (9 * s + k))) :
    wpX_paid post (nI r, nI c, mk, os, ts, li, lc, ft, fb, a1, a2, a3, a4, a5, a6, a7, a8, a9, a10) (nI s) (nI k) := by
  have hi : (9 : Int32) * nI s + nI k = nI (9 * s + k) := by
    rw [show (9 : Int32) = nI 9 from rfl, pk_mul, nI_add]
  unfold wpX_paid
  dsimp only
  refine ce_side hs (br_f (show ¬ (1 : Int32) = 0 by decide) (ce_plw hr ?_))
  rw [h]
  refine br_f (show ¬ (1 : Int32) = 0 by decide) ⟨pk_in (9 * s + k) 18 (by omega) hi, ?_⟩
  rw [pk_cl (9 * s + k) hi]
  exact hp
end
theorem ce_zero (s k : Nat) : (fun _ : Nat => (0 : Int32)) = ce_tab s k (ce_v 9) := by
  funext j
  unfold ce_tab
  by_cases e : j = 9 * s + k
  · rw [if_pos e]
    decide
  · rw [if_neg e]
theorem ce_vw {v : Int32} (h1 : ¬ v < -9) (h2 : ¬ 9 < v) : ∃ w, w < 19 ∧ v = ce_v w := by
  rw [Int32.lt_iff_toInt_lt, show (-9 : Int32).toInt = -9 from by decide] at h1
  rw [Int32.lt_iff_toInt_lt, show (9 : Int32).toInt = 9 from by decide] at h2
  have key : ∀ w : Nat, w < 19 → Int32.ofInt ((w : Int) - 9) = ce_v w := by decide +kernel
  refine ⟨(v.toInt + 9).toNat, by omega, ?_⟩
  rw [← key _ (by omega), show (((v.toInt + 9).toNat : Nat) : Int) - 9 = v.toInt by omega, Int32.ofInt_toInt]
theorem ce_sh : ∀ k, k < 9 → nI k / 3 = nI (k / 3) ∧ (nI k - nI k / 3 * 3) &&& 3 = nI (k % 3) := by decide +kernel
/-- a side -/
theorem ce_run {post : Int32 → St0 → Prop} {s r c m n : Nat} {p0 p1 y v0 pl put v own all : Int32} (hs : s < 2) (hr0 : ce_cm p0 r) (hc0 : ce_cm p1 c) (hr : 1 ≤ r) (hr' : r ≤ 3) (hc : 1 ≤ c) (hc' : c ≤ 3) (hm : m = if s = 0 then r else c) (hn : n = if s = 0 then c else r)
    (hpl : pl = ce_pl y (nI r) (nI c)) (hput : put = ce_put pl v0) (hv : v = if put = 0 then 0 else v0) (hown : own = (1 : Int32) <<< ((if s = 0 then y / 3 else (y - y / 3 * 3) &&& 3) &&& 31)) (hall : all = ce_p4 c r) (hp : post 1 ()) :
    wL_lawOf_301 post 376 6000 p0 p1 (nI s) y v0 1 pl put v (ce_lawS v (nI m) (nI n)) (ce_lawR v (nI m) (nI n) own) all 0 0 := by
  have n1 : ¬ (1 : Int32) = 0 := by decide
  refine ⟨by omega, by omega, 10, 541, by omega, by omega, ce_initw hr0 hc0 ?_⟩
  by_cases q : put = 0
  · rw [if_pos q] at hv
    have z9 : v = ce_v 9 := by rw [hv]; decide
    subst z9
    refine ce_pay0 hs hr' (by rw [← hpl, ← hput]; exact q) (br_t q.symm ?_)
    by_cases e : pl = 0
    · exact ce_paid0 hs hr' (by rw [← hpl]; exact e) (br_t e (ce_rest (k := 0) hs hr hr' hc hc' (by omega) (by omega) (by omega) hm hn (Or.inl rfl) hall (ce_zero s 0) hp))
    · obtain ⟨e1, k, hk, hk1, hk2, rfl⟩ := ce_pl1 hr' hc' (by rw [← hpl]; exact e)
      refine ce_paid1 hs hr' hk e1 (br_f e ?_)
      rw [show ((0 : Int32)) = ce_v 9 from by decide]
      exact ce_rest (k := 0) hs hr hr' hc hc' (by omega) (by omega) (by omega) hm hn (Or.inl rfl) hall (ce_zero s 0) hp
  · rw [if_neg q] at hv
    subst hv
    have e : ¬ pl = 0 := fun z => q (by rw [hput, z]; rfl)
    obtain ⟨e1, k, hk, hk1, hk2, rfl⟩ := ce_pl1 hr' hc' (by rw [← hpl]; exact e)
    rw [e1] at hpl
    subst hpl
    have b1 : ¬ v < -9 := fun z => q (by rw [hput]; unfold ce_put; rw [if_neg n1, if_pos z])
    have b2 : ¬ 9 < v := fun z => q (by rw [hput]; unfold ce_put; rw [if_neg n1, if_neg b1, if_pos z])
    have b3 : put = 1 := by
      rw [hput]
      unfold ce_put
      rw [if_neg n1, if_neg b1, if_neg b2]
    subst b3
    obtain ⟨w, hw, rfl⟩ := ce_vw b1 b2
    refine ce_pay1 hs hr' hk e1 b1 b2 (br_t rfl (ce_paid1 hs hr' hk e1 (br_f n1 ?_)))
    rw [pk_us, ce_vb w hw]
    refine ce_rest (k := k) hs hr hr' hc hc' hk1 hk2 hw hm hn (Or.inr ?_) hall rfl hp
    obtain ⟨s1, s2⟩ := ce_sh k hk
    rw [hown]
    unfold ce_mi
    by_cases es : s = 0
    · rw [if_pos es, if_pos es, s1]
    · rw [if_neg es, if_neg es, s2]
/-- no side -/
theorem ce_runN {post : Int32 → St0 → Prop} {r c : Nat} {p0 p1 x y v0 sure rep all : Int32} (h0 : ¬ x = 0) (h1 : ¬ x = 1) (hr0 : ce_cm p0 r) (hc0 : ce_cm p1 c) (hr' : r ≤ 3) (hc' : c ≤ 3) (hall : all = ce_p4 c r) (hp : post 1 ()) :
    wL_lawOf_301 post 376 6000 p0 p1 x y v0 0 0 0 0 sure rep all 0 0 := by
  refine ⟨by omega, by omega, 10, 541, by omega, by omega, ce_initw hr0 hc0 ?_⟩
  dsimp only
  unfold wpX_pay
  dsimp only
  refine ce_noside h0 h1 (br_t rfl (br_t rfl ?_))
  unfold wpX_paid
  dsimp only
  refine ce_noside h0 h1 (br_t rfl (br_t rfl (br_t rfl ?_)))
  unfold wpX_sureTop
  dsimp only
  refine ce_noside h0 h1 (br_t rfl (br_t rfl (br_t rfl ?_)))
  unfold wpX_sureBottom
  dsimp only
  refine ce_noside h0 h1 (br_t rfl (br_t rfl (br_t rfl (br_t rfl (ce_pure hr' hc' (fun _ _ => rfl) (br_t hall.symm ?_))))))
  unfold wL_lawOf_416 wpX_replies
  dsimp only
  exact ce_noside h0 h1 (br_t rfl (br_t rfl (br_t rfl hp)))
end
section
/-! the law's own road, and what is owed -/
def ce_all (x y : Int32) : Int32 := if x = 1 then y else if x = 2 then y ||| (y <<< ((3 : Int32) &&& 31)) else (y ||| (y <<< ((3 : Int32) &&& 31))) ||| (y <<< ((6 : Int32) &&& 31))
section
variable {post : Int32 → St0 → Prop} {mc ms kc ks : Nat} {x0 x1 x2 x3 x4 x5 x6 x7 x8 x9 x10 x11 x12 x13 x14 z0 z1 : Int32}
theorem ce_l259 (h : wL_lawOf_301 post mc ms x0 x1 x2 x3 x4 x7 x8 x9 x12 x13 z0 (ce_all x5 x14) kc ks) : wL_lawOf_259 post mc ms x0 x1 x2 x3 x4 x5 x7 x8 x9 x12 x13 x14 z0 kc ks := by
  unfold ce_all at h
  by_cases c1 : x5 = 1
  · rw [if_pos c1] at h
    exact br_t c1 h
  · rw [if_neg c1] at h
    by_cases c2 : x5 = 2
    · rw [if_pos c2] at h
      exact br_f c1 (br_t c2 h)
    · rw [if_neg c2] at h
      exact br_f c1 (br_f c2 h)
theorem ce_l229 (h : wL_lawOf_301 post mc ms x0 x1 x2 x3 x4 x7 x8 x9 x12 x13 (((1 : Int32) <<< (x10 &&& 31)) - 1) (ce_all x5 x14) kc ks) : wL_lawOf_229 post mc ms x0 x1 x2 x3 x4 x5 x7 x8 x9 x10 x12 x13 x14 kc ks := by
  unfold wL_lawOf_229
  exact ce_l259 h
theorem ce_l209 (h : wL_lawOf_301 post mc ms x0 x1 x2 x3 x4 x7 x8 x9 x12 x13 (ce_lawR x12 x10 x11 (z1 <<< (z0 &&& 31))) (ce_all x5 x14) kc ks) : wL_lawOf_209 post mc ms x0 x1 x2 x3 x4 x5 x7 x8 x9 x10 x11 x12 x13 x14 z0 z1 kc ks := by
  unfold ce_lawR at h
  unfold wL_lawOf_209
  refine nm_e ?_
  by_cases c1 : 1 < x11
  · rw [if_pos c1] at h
    exact br_t c1 (ce_l229 h)
  · rw [if_neg c1] at h
    refine br_f c1 ?_
    by_cases c2 : x12 = 0
    · rw [if_pos c2] at h
      exact br_t c2 (ce_l229 h)
    · rw [if_neg c2] at h
      refine br_f c2 ?_
      by_cases c3 : x10 = 1
      · rw [if_pos c3] at h
        exact br_t c3 (ce_l229 h)
      · rw [if_neg c3] at h
        refine br_f c3 ?_
        by_cases c4 : x12 ≤ 0
        · rw [if_pos c4] at h
          exact br_t c4 (ce_l259 h)
        · rw [if_neg c4] at h
          exact br_f c4 (ce_l259 h)
theorem ce_l183 (h : wL_lawOf_301 post mc ms x0 x1 x2 x3 x4 x7 x8 x9 x12 z0 (ce_lawR x12 x10 x11 ((1 : Int32) <<< ((if x2 = 0 then x3 / 3 else (x3 - x3 / 3 * 3) &&& 3) &&& 31))) (ce_all x5 (((1 : Int32) <<< (x6 &&& 31)) - 1)) kc ks) : wL_lawOf_183 post mc ms x0 x1 x2 x3 x4 x5 x6 x7 x8 x9 x10 x11 x12 z0 kc ks := by
  have n3 : ¬ (3 : Int32) = 0 := by decide
  unfold wL_lawOf_183
  refine nm_e ?_
  by_cases c1 : x2 = 0
  · rw [if_pos c1] at h
    exact br_t c1 ⟨n3, ce_l209 h⟩
  · rw [if_neg c1] at h
    exact br_f c1 ⟨n3, ce_l209 h⟩
theorem ce_l166 (h : wL_lawOf_183 post mc ms x0 x1 x2 x3 x4 x5 x6 x7 x8 x9 x10 x11 x12 (if 0 ≤ x12 then 0 else if x10 = 1 then x12 else 0) kc ks) : wL_lawOf_166 post mc ms x0 x1 x2 x3 x4 x5 x6 x7 x8 x9 x10 x11 x12 kc ks := by
  unfold wL_lawOf_166 wL_lawOf_182 wL_lawOf_177
  by_cases c1 : 0 ≤ x12
  · rw [if_pos c1] at h
    exact br_t c1 h
  · rw [if_neg c1] at h
    refine br_f c1 ?_
    by_cases c2 : x10 = 1
    · rw [if_pos c2] at h
      exact br_t c2 h
    · rw [if_neg c2] at h
      exact br_f c2 h
theorem ce_l153 (h : wL_lawOf_183 post mc ms x0 x1 x2 x3 x4 x5 x6 x7 x8 x9 x10 x11 z0 (ce_lawS z0 x10 x11) kc ks) : wL_lawOf_153 post mc ms x0 x1 x2 x3 x4 x5 x6 x7 x8 x9 x10 x11 z0 kc ks := by
  unfold ce_lawS at h
  by_cases c1 : z0 ≤ 0
  · rw [if_pos c1] at h
    exact br_t c1 (ce_l166 h)
  · rw [if_neg c1] at h
    refine br_f c1 ?_
    by_cases c2 : x11 = 1
    · rw [if_pos c2] at h
      refine br_t c2 ?_
      unfold wL_lawOf_177
      exact h
    · rw [if_neg c2] at h
      exact br_f c2 (ce_l166 h)
theorem ce_l140 (h : wL_lawOf_153 post mc ms x0 x1 x2 x3 x4 x5 x6 x7 x8 x9 x10 z0 (if x9 = 0 then 0 else x4) kc ks) : wL_lawOf_140 post mc ms x0 x1 x2 x3 x4 x5 x6 x7 x8 x9 x10 z0 kc ks := by
  by_cases c1 : x9 = 0
  · rw [if_pos c1] at h
    exact br_t c1 h
  · rw [if_neg c1] at h
    exact br_f c1 h
theorem ce_l127 (h : wL_lawOf_140 post mc ms x0 x1 x2 x3 x4 x5 x6 x7 x8 x9 z0 (if x2 = 0 then x6 else x5) kc ks) : wL_lawOf_127 post mc ms x0 x1 x2 x3 x4 x5 x6 x7 x8 x9 z0 kc ks := by
  by_cases c1 : x2 = 0
  · rw [if_pos c1] at h
    exact br_t c1 h
  · rw [if_neg c1] at h
    exact br_f c1 h
theorem ce_l114 (h : wL_lawOf_127 post mc ms x0 x1 x2 x3 x4 x5 x6 x7 x8 z0 (if x2 = 0 then x5 else x6) kc ks) : wL_lawOf_114 post mc ms x0 x1 x2 x3 x4 x5 x6 x7 x8 z0 kc ks := by
  by_cases c1 : x2 = 0
  · rw [if_pos c1] at h
    exact br_t c1 h
  · rw [if_neg c1] at h
    exact br_f c1 h
theorem ce_l88 (h : wL_lawOf_114 post mc ms x0 x1 x2 x3 x4 x5 x6 x7 z0 (ce_put z0 x4) kc ks) : wL_lawOf_88 post mc ms x0 x1 x2 x3 x4 x5 x6 x7 z0 kc ks := by
  unfold ce_put at h
  unfold wL_lawOf_88 wL_lawOf_113
  by_cases c1 : z0 = 0
  · rw [if_pos c1] at h
    exact br_t c1 h
  · rw [if_neg c1] at h
    refine br_f c1 ?_
    by_cases c2 : x4 < -9
    · rw [if_pos c2] at h
      exact br_t c2 h
    · rw [if_neg c2] at h
      refine br_f c2 ?_
      by_cases c3 : 9 < x4
      · rw [if_pos c3] at h
        exact br_t c3 h
      · rw [if_neg c3] at h
        exact br_f c3 h
theorem ce_l56 (h : wL_lawOf_88 post mc ms x0 x1 x2 x3 x4 x5 x6 z0 (if z0 = 0 then 0 else ce_pl x3 x5 x6) kc ks) : wL_lawOf_56 post mc ms x0 x1 x2 x3 x4 x5 x6 z0 kc ks := by
  have n3 : ¬ (3 : Int32) = 0 := by decide
  unfold ce_pl at h
  unfold wL_lawOf_56 wL_lawOf_87
  by_cases c1 : z0 = 0
  · rw [if_pos c1] at h
    exact br_t c1 h
  · rw [if_neg c1] at h
    refine br_f c1 ?_
    by_cases c2 : x3 < 0
    · rw [if_pos c2] at h
      exact br_t c2 h
    · rw [if_neg c2] at h
      refine br_f c2 ?_
      by_cases c3 : 3 * x5 ≤ x3
      · rw [if_pos c3] at h
        exact br_t c3 h
      · rw [if_neg c3] at h
        refine br_f c3 ⟨n3, ?_⟩
        by_cases c4 : x6 ≤ x3 - x3 / 3 * 3
        · rw [if_pos c4] at h
          exact br_t c4 h
        · rw [if_neg c4] at h
          exact br_f c4 h
end
theorem ce_if {α : Sort _} {s : Nat} (hs : s < 2) (a b : α) : (if nI s = 0 then a else b) = if s = 0 then a else b := by
  rcases (show s = 0 ∨ s = 1 by omega) with rfl | rfl
  · rw [if_pos (show nI 0 = 0 from rfl), if_pos rfl]
  · rw [if_neg (show ¬ nI 1 = 0 by decide), if_neg (by decide)]
theorem ce_nif {s r c : Nat} : (if s = 0 then nI r else nI c) = nI (if s = 0 then r else c) := by
  by_cases e : s = 0
  · rw [if_pos e, if_pos e]
  · rw [if_neg e, if_neg e]
theorem ce_allp {r c : Nat} (hr : 1 ≤ r) (hr' : r ≤ 3) (hc : 1 ≤ c) (hc' : c ≤ 3) : ce_all (nI r) (((1 : Int32) <<< (nI c &&& 31)) - 1) = ce_p4 c r := by
  rcases (show r = 1 ∨ r = 2 ∨ r = 3 by omega) with rfl | rfl | rfl <;> rcases (show c = 1 ∨ c = 2 ∨ c = 3 by omega) with rfl | rfl | rfl <;> decide
theorem ce_lawOf {post : Int32 → St0 → Prop} (hp : post 1 ()) (p0 p1 p2 p3 p4 : Int32) : wpL_lawOf post 376 6000 () p0 p1 p2 p3 p4 := by
  obtain ⟨r, r1, r3, hr⟩ := ce_cme p0
  obtain ⟨c, c1, c3, hc⟩ := ce_cme p1
  have n1 : ¬ (1 : Int32) = 0 := by decide
  have side : ∀ s, s < 2 → wL_lawOf_56 post 376 6000 p0 p1 (nI s) p3 p4 (nI r) (nI c) 1 0 0 := by
    intro s hs
    refine ce_l56 (ce_l88 (ce_l114 (ce_l127 (ce_l140 (ce_l153 (ce_l183 ?_))))))
    rw [if_neg n1, ce_if hs, ce_if hs, ce_if hs, ce_nif, ce_nif]
    exact ce_run hs hr hc r1 r3 c1 c3 rfl rfl rfl rfl rfl rfl (ce_allp r1 r3 c1 c3) hp
  have key : wL_lawOf_40 post 376 6000 p0 p1 p2 p3 p4 (nI r) (nI c) 0 0 := by
    unfold wL_lawOf_40 wL_lawOf_51
    by_cases a0 : p2 = 0
    · subst a0
      exact br_t rfl (side 0 (by omega))
    · refine br_f a0 ?_
      by_cases a1 : p2 = 1
      · subst a1
        exact br_t rfl (side 1 (by omega))
      · refine br_f a1 (ce_l56 (ce_l88 (ce_l114 (ce_l127 (ce_l140 (ce_l153 (ce_l183 ?_)))))))
        rw [if_pos (show (0 : Int32) = 0 from rfl), show ce_put 0 p4 = 0 from if_pos rfl, if_pos (show (0 : Int32) = 0 from rfl)]
        exact ce_runN a0 a1 hr hc r3 c3 (ce_allp r1 r3 c1 c3) hp
  have k19 : wL_lawOf_19 post 376 6000 p0 p1 p2 p3 p4 (nI r) 0 0 := by
    unfold wL_lawOf_19
    rcases hc with ⟨h1, h2, rfl⟩ | ⟨h1, h2, rfl⟩ | ⟨h1, rfl⟩
    · exact br_t h1 (br_t h2 key)
    · exact br_t h1 (br_f h2 key)
    · exact br_f h1 key
  unfold wpL_lawOf
  rcases hr with ⟨h1, h2, rfl⟩ | ⟨h1, h2, rfl⟩ | ⟨h1, rfl⟩
  · exact br_t h1 (br_t h2 k19)
  · exact br_t h1 (br_f h2 k19)
  · exact br_f h1 k19
theorem ce_cell {post : Int32 → Prop} {L : Nat} {xs : Nat → Int32} (hL : L ≤ 5) (i : Nat) (hi : i < 5) (h : ∀ x, post x) : wpL_cellAt post L xs () (nI i) :=
  pk_le L i (fun _ => h 0) (fun z => ⟨pk_in i L z, h _⟩)
theorem i_vc (xs : Nat → Int32) (L : Nat) (hL : L ≤ 5) : wpL_law (fun r => r = 1) L xs := by
  unfold wpL_law
  exact ce_cell hL 0 (by omega) (fun r1 => ce_cell hL 1 (by omega) (fun r2 => ce_cell hL 2 (by omega) (fun r3 => ce_cell hL 3 (by omega) (fun r4 => ce_cell hL 4 (by omega) (fun r5 => ⟨376, 6000, by omega, by omega, ce_lawOf rfl r1 r2 r3 r4 r5⟩)))))
end
