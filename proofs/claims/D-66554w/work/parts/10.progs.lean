/-! the methods as programs over the typed heap (printed by program out of the bytecode) -/
/-! ReadSide$Vector.<init>()V -/
def f_Vec_init  (l0 : Nat) : xM Unit :=
  nAI 3 fun a1 =>
  pV l0 8 0 (.ref a1) <|
  xr ()
/-! ReadSide$Session.<init>()V -/
def f_Sess_init  (l0 : Nat) : xM Unit :=
  nE 1 (.inr (8, z_Vec)) fun a1 =>
  xb (f_Vec_init a1) fun v2 =>
  pV l0 6 2 (.ref a1) <|
  nE 1 (.inr (8, z_Vec)) fun a3 =>
  xb (f_Vec_init a3) fun v4 =>
  pV l0 6 3 (.ref a3) <|
  xr ()
/-! ReadSide$Item.<init>()V -/
def f_Item_init  (l0 : Nat) : xM Unit :=
  pV l0 2 3 (.int 1) <|
  nAI 10 fun a1 =>
  pV l0 2 4 (.ref a1) <|
  xr ()
/-! ReadSide$State.<init>()V -/
def f_St_init_b42 (k42 : Nat → Int32 → xM Unit) (l0 : Nat) (l1 : Int32) : xM Unit :=
  if (30 : Int32) ≤ l1 then
    xr ()
  else
    gA l0 7 0 fun v1 =>
    nE 5 (.inr (2, z_Item)) fun a2 =>
    xb (f_Item_init a2) fun v3 =>
    sA 3 v1 l1 a2 <|
    k42 l0 (l1 + 1)
def f_St_init_h42  : Nat → Nat → Int32 → xM Unit
  | 0, _, _ => xst
  | n + 1, l0, l1 => f_St_init_b42 (f_St_init_h42 n) l0 l1
def f_St_init  (l0 : Nat) : xM Unit :=
  nAA 3 30 fun a1 =>
  pV l0 7 0 (.ref a1) <|
  nAJ 10 fun a2 =>
  pV l0 7 1 (.ref a2) <|
  nAI 10 fun a3 =>
  pV l0 7 2 (.ref a3) <|
  nE 1 (.inr (8, z_Vec)) fun a4 =>
  xb (f_Vec_init a4) fun v5 =>
  pV l0 7 3 (.ref a4) <|
  f_St_init_h42 1000 l0 0
/-! ReadSide$Replica.<init>()V -/
def f_Repl_init  (l0 : Nat) : xM Unit :=
  nE 4 (.inr (7, z_St)) fun a1 =>
  xb (f_St_init a1) fun v2 =>
  pV l0 5 0 (.ref a1) <|
  nE 4 (.inr (7, z_St)) fun a3 =>
  xb (f_St_init a3) fun v4 =>
  pV l0 5 1 (.ref a3) <|
  pZ l0 5 2 1 <|
  xr ()
/-! ReadSide.isIn(JJJ)Z -/
def f_RS_isIn_b18  (t0 : Int32) : xM Int32 :=
  if t0 = 0 ∨ t0 = 1 then xr t0 else xst
def f_RS_isIn_b17   : xM Int32 :=
  f_RS_isIn_b18 0
def f_RS_isIn  (l0 : Int64) (l2 : Int64) (l4 : Int64) : xM Int32 :=
  if (lg_cmp l0 l2) < 0 then
    f_RS_isIn_b17
  else
    if (0 : Int32) < (lg_cmp l0 l4) then
      f_RS_isIn_b17
    else
      f_RS_isIn_b18 1
/-! ReadSide$Log.<init>()V -/
def f_Log_init  (l0 : Nat) : xM Unit :=
  nAA 4 400 fun a1 =>
  pV l0 3 0 (.ref a1) <|
  xr ()
/-! ReadSide.<init>(II)V -/
def f_RS_init_b149 (k149 : Nat → Int32 → xM Unit) (l0 : Nat) (l3 : Int32) : xM Unit :=
  if (8 : Int32) ≤ l3 then
    xr ()
  else
    gA l0 0 3 fun v1 =>
    nE 4 (.inr (6, z_Sess)) fun a2 =>
    xb (f_Sess_init a2) fun v3 =>
    sA 7 v1 l3 a2 <|
    k149 l0 (l3 + 1)
def f_RS_init_h149  : Nat → Nat → Int32 → xM Unit
  | 0, _, _ => xst
  | n + 1, l0, l3 => f_RS_init_b149 (f_RS_init_h149 n) l0 l3
def f_RS_init_b119 (k119 : Nat → Int32 → xM Unit) (l0 : Nat) (l3 : Int32) : xM Unit :=
  gA l0 0 2 fun v1 =>
  aL v1 fun v2 =>
  if v2 ≤ l3 then
    f_RS_init_h149 1000 l0 0
  else
    gA l0 0 2 fun v3 =>
    nE 5 (.inr (5, z_Repl)) fun a4 =>
    xb (f_Repl_init a4) fun v5 =>
    sA 6 v3 l3 a4 <|
    k119 l0 (l3 + 1)
def f_RS_init_h119  : Nat → Nat → Int32 → xM Unit
  | 0, _, _ => xst
  | n + 1, l0, l3 => f_RS_init_b119 (f_RS_init_h119 n) l0 l3
def f_RS_init_b111  (l0 : Nat) (t0 : Int32) (t1 : Nat) : xM Unit :=
  nAA 6 t0 fun a1 =>
  pV t1 0 2 (.ref a1) <|
  f_RS_init_h119 1000 l0 0
def f_RS_init_b65 (k65 : Nat → Int32 → Int32 → xM Unit) (l0 : Nat) (l2 : Int32) (l3 : Int32) : xM Unit :=
  gA l0 0 1 fun v1 =>
  aL v1 fun v2 =>
  if v2 ≤ l3 then
    xb (f_RS_isIn l2.toInt64 1 4) fun v3 =>
    if v3 = 0 then
      f_RS_init_b111 l0 2 l0
    else
      f_RS_init_b111 l0 l2 l0
  else
    gA l0 0 1 fun v4 =>
    nE 3 (.inr (3, z_Log)) fun a5 =>
    xb (f_Log_init a5) fun v6 =>
    sA 5 v4 l3 a5 <|
    k65 l0 l2 (l3 + 1)
def f_RS_init_h65  : Nat → Nat → Int32 → Int32 → xM Unit
  | 0, _, _, _ => xst
  | n + 1, l0, l2, l3 => f_RS_init_b65 (f_RS_init_h65 n) l0 l2 l3
def f_RS_init_b49  (l0 : Nat) (l2 : Int32) (t0 : Int32) (t1 : Nat) : xM Unit :=
  pV t1 0 0 (.int t0) <|
  gI l0 0 0 fun v1 =>
  nAA 5 v1 fun a2 =>
  pV l0 0 1 (.ref a2) <|
  f_RS_init_h65 1000 l0 l2 0
def f_RS_init  (l0 : Nat) (l1 : Int32) (l2 : Int32) : xM Unit :=
  nAA 7 8 fun a1 =>
  pV l0 0 3 (.ref a1) <|
  nAA 8 500 fun a2 =>
  pV l0 0 4 (.ref a2) <|
  nAI 40 fun a3 =>
  pV l0 0 6 (.ref a3) <|
  xb (f_RS_isIn l1.toInt64 1 3) fun v4 =>
  if v4 = 0 then
    f_RS_init_b49 l0 l2 2 l0
  else
    f_RS_init_b49 l0 l2 l1 l0
/-! java/lang/Math.min(II)I -/
def f_Math_min_b10  (t0 : Int32) : xM Int32 :=
  xr t0
def f_Math_min  (l0 : Int32) (l1 : Int32) : xM Int32 :=
  if l1 < l0 then
    f_Math_min_b10 l1
  else
    f_Math_min_b10 l0
/-! ReadSide.trim()I -/
def f_RS_trim_b68 (k4 : Nat → Int32 → Int32 → xM Int32) (k68 : Nat → Int32 → Int32 → Int32 → xM Int32) (l0 : Nat) (l1 : Int32) (l2 : Int32) (l3 : Int32) : xM Int32 :=
  gA l0 0 1 fun v1 =>
  lA 5 v1 l2 fun v2 =>
  gI v2 3 2 fun v3 =>
  if l3 ≤ v3 then
    k4 l0 l1 (l2 + 1)
  else
    gA l0 0 1 fun v4 =>
    lA 5 v4 l2 fun v5 =>
    gA v5 3 0 fun v6 =>
    gA l0 0 1 fun v7 =>
    lA 5 v7 l2 fun v8 =>
    gI v8 3 2 fun v9 =>
    pV v8 3 2 (.int (v9 + 1)) <|
    sN 4 v6 v9 <|
    k68 l0 (l1 + 1) l2 l3
def f_RS_trim_h68 (k4 : Nat → Int32 → Int32 → xM Int32) : Nat → Nat → Int32 → Int32 → Int32 → xM Int32
  | 0, _, _, _, _ => xst
  | n + 1, l0, l1, l2, l3 => f_RS_trim_b68 k4 (f_RS_trim_h68 k4 n) l0 l1 l2 l3
def f_RS_trim_b30 (k4 : Nat → Int32 → Int32 → xM Int32) (k30 : Nat → Int32 → Int32 → Int32 → Nat → Int32 → Int32 → xM Int32) (l0 : Nat) (l1 : Int32) (l2 : Int32) (l3 : Int32) (l4 : Nat) (l5 : Int32) (l6 : Int32) : xM Int32 :=
  if l5 ≤ l6 then
    f_RS_trim_h68 k4 1000 l0 l1 l2 l3
  else
    lA 6 l4 l6 fun v1 =>
    gA v1 5 1 fun v2 =>
    gA v2 7 3 fun v3 =>
    gA v3 8 0 fun v4 =>
    lI v4 l2 fun v5 =>
    xb (f_Math_min l3 v5) fun v6 =>
    k30 l0 l1 l2 v6 l4 l5 (l6 + 1)
def f_RS_trim_h30 (k4 : Nat → Int32 → Int32 → xM Int32) : Nat → Nat → Int32 → Int32 → Int32 → Nat → Int32 → Int32 → xM Int32
  | 0, _, _, _, _, _, _, _ => xst
  | n + 1, l0, l1, l2, l3, l4, l5, l6 => f_RS_trim_b30 k4 (f_RS_trim_h30 k4 n) l0 l1 l2 l3 l4 l5 l6
def f_RS_trim_b4 (k4 : Nat → Int32 → Int32 → xM Int32) (l0 : Nat) (l1 : Int32) (l2 : Int32) : xM Int32 :=
  gI l0 0 0 fun v1 =>
  if v1 ≤ l2 then
    xr l1
  else
    gA l0 0 2 fun v2 =>
    aL v2 fun v3 =>
    f_RS_trim_h30 k4 1000 l0 l1 l2 400 v2 v3 0
def f_RS_trim_h4  : Nat → Nat → Int32 → Int32 → xM Int32
  | 0, _, _, _ => xst
  | n + 1, l0, l1, l2 => f_RS_trim_b4 (f_RS_trim_h4 n) l0 l1 l2
def f_RS_trim  (l0 : Nat) : xM Int32 :=
  f_RS_trim_h4 1000 l0 0 0
/-! ReadSideLaw.cell([II)I -/
def f_law_cell_b13  (t0 : Int32) : xM Int32 :=
  xr t0
def f_law_cell  (l0 : Nat) (l1 : Int32) : xM Int32 :=
  aL l0 fun v1 =>
  if v1 ≤ l1 then
    f_law_cell_b13 0
  else
    lI l0 l1 fun v2 =>
    f_law_cell_b13 v2
/-! ReadSide$Session.has(I)Z -/
def f_Sess_has_b14  (t0 : Int32) : xM Int32 :=
  if t0 = 0 ∨ t0 = 1 then xr t0 else xst
def f_Sess_has  (l0 : Nat) (l1 : Int32) : xM Int32 :=
  gI l0 6 0 fun v1 =>
  if (v1 &&& l1) = 0 then
    f_Sess_has_b14 0
  else
    f_Sess_has_b14 1
/-! ReadSide$Vector.covers(LReadSide$Vector;)Z -/
def f_Vec_covers_b50  (t0 : Int32) : xM Int32 :=
  if t0 = 0 ∨ t0 = 1 then xr t0 else xst
def f_Vec_covers_b49   : xM Int32 :=
  f_Vec_covers_b50 0
def f_Vec_covers  (l0 : Nat) (l1 : Nat) : xM Int32 :=
  gA l0 8 0 fun v1 =>
  lI v1 0 fun v2 =>
  gA l1 8 0 fun v3 =>
  lI v3 0 fun v4 =>
  if v2 < v4 then
    f_Vec_covers_b49
  else
    gA l0 8 0 fun v5 =>
    lI v5 1 fun v6 =>
    gA l1 8 0 fun v7 =>
    lI v7 1 fun v8 =>
    if v6 < v8 then
      f_Vec_covers_b49
    else
      gA l0 8 0 fun v9 =>
      lI v9 2 fun v10 =>
      gA l1 8 0 fun v11 =>
      lI v11 2 fun v12 =>
      if v10 < v12 then
        f_Vec_covers_b49
      else
        f_Vec_covers_b50 1
/-! ReadSide.may(LReadSide$Replica;LReadSide$Read;)Z -/
def f_RS_may_b149  (l5 : Int32) : xM Int32 :=
  if l5 = 0 ∨ l5 = 1 then xr l5 else xst
def f_RS_may_b141 (k88 : Nat → Nat → Nat → Int32 → Int32 → xM Int32) (l0 : Nat) (l2 : Nat) (l4 : Nat) (l6 : Int32) (t0 : Int32) : xM Int32 :=
  k88 l0 l2 l4 t0 (l6 + 1)
def f_RS_may_b88 (k88 : Nat → Nat → Nat → Int32 → Int32 → xM Int32) (l0 : Nat) (l2 : Nat) (l4 : Nat) (l5 : Int32) (l6 : Int32) : xM Int32 :=
  gI l0 0 0 fun v1 =>
  if v1 ≤ l6 then
    f_RS_may_b149 l5
  else
    if l5 = 0 then
      f_RS_may_b149 l5
    else
      gI l2 4 3 fun v2 =>
      if v2 = (-1) then
        f_RS_may_b149 l5
      else
        gA l0 0 1 fun v3 =>
        lA 5 v3 l6 fun v4 =>
        gI v4 3 1 fun v5 =>
        gA l4 8 0 fun v6 =>
        lI v6 l6 fun v7 =>
        gI l2 4 3 fun v8 =>
        if v8 < (v5 - v7) then
          f_RS_may_b141 k88 l0 l2 l4 l6 0
        else
          f_RS_may_b141 k88 l0 l2 l4 l6 1
def f_RS_may_h88  : Nat → Nat → Nat → Nat → Int32 → Int32 → xM Int32
  | 0, _, _, _, _, _ => xst
  | n + 1, l0, l2, l4, l5, l6 => f_RS_may_b88 (f_RS_may_h88 n) l0 l2 l4 l5 l6
def f_RS_may_b83  (l0 : Nat) (l2 : Nat) (l4 : Nat) (t0 : Int32) : xM Int32 :=
  f_RS_may_h88 1000 l0 l2 l4 t0 0
def f_RS_may_b82  (l0 : Nat) (l2 : Nat) (l4 : Nat) : xM Int32 :=
  f_RS_may_b83 l0 l2 l4 0
def f_RS_may_b78  (l0 : Nat) (l2 : Nat) (l4 : Nat) : xM Int32 :=
  f_RS_may_b83 l0 l2 l4 1
def f_RS_may_b58  (l0 : Nat) (l2 : Nat) (l3 : Nat) (l4 : Nat) : xM Int32 :=
  xv l3 6 <| xb (f_Sess_has l3 2) fun v1 =>
  if v1 = 0 then
    f_RS_may_b78 l0 l2 l4
  else
    gA l3 6 3 fun v2 =>
    xv l4 8 <| xb (f_Vec_covers l4 v2) fun v3 =>
    if v3 = 0 then
      f_RS_may_b82 l0 l2 l4
    else
      f_RS_may_b78 l0 l2 l4
def f_RS_may  (l0 : Nat) (l1 : Nat) (l2 : Nat) : xM Int32 :=
  gA l0 0 3 fun v1 =>
  gI l2 4 1 fun v2 =>
  lA 7 v1 v2 fun v3 =>
  gA l1 5 0 fun v4 =>
  gA v4 7 3 fun v5 =>
  gI l1 5 2 fun v6 =>
  if v6 = 0 then
    f_RS_may_b82 l0 l2 v5
  else
    gA l2 4 2 fun v7 =>
    xv v5 8 <| xb (f_Vec_covers v5 v7) fun v8 =>
    if v8 = 0 then
      f_RS_may_b82 l0 l2 v5
    else
      xv v3 6 <| xb (f_Sess_has v3 1) fun v9 =>
      if v9 = 0 then
        f_RS_may_b58 l0 l2 v3 v5
      else
        gA v3 6 2 fun v10 =>
        xv v5 8 <| xb (f_Vec_covers v5 v10) fun v11 =>
        if v11 = 0 then
          f_RS_may_b82 l0 l2 v5
        else
          f_RS_may_b58 l0 l2 v3 v5
/-! ReadSide.numberOf(LReadSide$Replica;)I -/
def f_RS_numberOf_b2 (k2 : Nat → Nat → Int32 → xM Int32) (l0 : Nat) (l1 : Nat) (l2 : Int32) : xM Int32 :=
  gA l0 0 2 fun v1 =>
  lA 6 v1 l2 fun v2 =>
  if v2 = l1 then
    xr l2
  else
    k2 l0 l1 (l2 + 1)
def f_RS_numberOf_h2  : Nat → Nat → Nat → Int32 → xM Int32
  | 0, _, _, _ => xst
  | n + 1, l0, l1, l2 => f_RS_numberOf_b2 (f_RS_numberOf_h2 n) l0 l1 l2
def f_RS_numberOf  (l0 : Nat) (l1 : Nat) : xM Int32 :=
  f_RS_numberOf_h2 1000 l0 l1 0
/-! ReadSide$State.held(I)J -/
def f_St_held_b16 (k16 : Int32 → Int64 → Nat → Int32 → Int32 → xM Int64) (l1 : Int32) (l2 : Int64) (l4 : Nat) (l5 : Int32) (l6 : Int32) : xM Int64 :=
  if l5 ≤ l6 then
    xr l2
  else
    lA 3 l4 l6 fun v1 =>
    gA v1 2 4 fun v2 =>
    lI v2 l1 fun v3 =>
    k16 l1 (l2 + v3.toInt64) l4 l5 (l6 + 1)
def f_St_held_h16  : Nat → Int32 → Int64 → Nat → Int32 → Int32 → xM Int64
  | 0, _, _, _, _, _ => xst
  | n + 1, l1, l2, l4, l5, l6 => f_St_held_b16 (f_St_held_h16 n) l1 l2 l4 l5 l6
def f_St_held  (l0 : Nat) (l1 : Int32) : xM Int64 :=
  gA l0 7 0 fun v1 =>
  aL v1 fun v2 =>
  f_St_held_h16 1000 l1 0 v1 v2 0
/-! ReadSide$State.ranked(I)I -/
def f_St_ranked_b88 (k2 : Nat → Int32 → Int32 → xM Int32) (k13 : Nat → Int32 → Int32 → Int32 → Int32 → xM Int32) (l0 : Nat) (l1 : Int32) (l2 : Int32) (l4 : Int32) (t0 : Int32) (t1 : Int32) : xM Int32 :=
  k13 l0 l1 l2 (t1 + t0) (l4 + 1)
def f_St_ranked_b75 (k2 : Nat → Int32 → Int32 → xM Int32) (k13 : Nat → Int32 → Int32 → Int32 → Int32 → xM Int32) (l0 : Nat) (l1 : Int32) (l2 : Int32) (l3 : Int32) (l4 : Int32) (t0 : Int32) : xM Int32 :=
  if t0 = 0 then
    f_St_ranked_b88 k2 k13 l0 l1 l2 l4 0 l3
  else
    f_St_ranked_b88 k2 k13 l0 l1 l2 l4 1 l3
def f_St_ranked_b74 (k2 : Nat → Int32 → Int32 → xM Int32) (k13 : Nat → Int32 → Int32 → Int32 → Int32 → xM Int32) (l0 : Nat) (l1 : Int32) (l2 : Int32) (l3 : Int32) (l4 : Int32) : xM Int32 :=
  f_St_ranked_b75 k2 k13 l0 l1 l2 l3 l4 0
def f_St_ranked_b70 (k2 : Nat → Int32 → Int32 → xM Int32) (k13 : Nat → Int32 → Int32 → Int32 → Int32 → xM Int32) (l0 : Nat) (l1 : Int32) (l2 : Int32) (l3 : Int32) (l4 : Int32) : xM Int32 :=
  f_St_ranked_b75 k2 k13 l0 l1 l2 l3 l4 1
def f_St_ranked_b13 (k2 : Nat → Int32 → Int32 → xM Int32) (k13 : Nat → Int32 → Int32 → Int32 → Int32 → xM Int32) (l0 : Nat) (l1 : Int32) (l2 : Int32) (l3 : Int32) (l4 : Int32) : xM Int32 :=
  if (30 : Int32) ≤ l4 then
    if l3 = l1 then
      xr l2
    else
      k2 l0 l1 (l2 + 1)
  else
    gA l0 7 0 fun v1 =>
    lA 3 v1 l4 fun v2 =>
    gI v2 2 2 fun v3 =>
    gA l0 7 0 fun v4 =>
    lA 3 v4 l2 fun v5 =>
    gI v5 2 2 fun v6 =>
    if v6 < v3 then
      f_St_ranked_b70 k2 k13 l0 l1 l2 l3 l4
    else
      gA l0 7 0 fun v7 =>
      lA 3 v7 l4 fun v8 =>
      gI v8 2 2 fun v9 =>
      gA l0 7 0 fun v10 =>
      lA 3 v10 l2 fun v11 =>
      gI v11 2 2 fun v12 =>
      if v9 = v12 then
        if l2 ≤ l4 then
          f_St_ranked_b74 k2 k13 l0 l1 l2 l3 l4
        else
          f_St_ranked_b70 k2 k13 l0 l1 l2 l3 l4
      else
        f_St_ranked_b74 k2 k13 l0 l1 l2 l3 l4
def f_St_ranked_h13 (k2 : Nat → Int32 → Int32 → xM Int32) : Nat → Nat → Int32 → Int32 → Int32 → Int32 → xM Int32
  | 0, _, _, _, _, _ => xst
  | n + 1, l0, l1, l2, l3, l4 => f_St_ranked_b13 k2 (f_St_ranked_h13 k2 n) l0 l1 l2 l3 l4
def f_St_ranked_b2 (k2 : Nat → Int32 → Int32 → xM Int32) (l0 : Nat) (l1 : Int32) (l2 : Int32) : xM Int32 :=
  if (30 : Int32) ≤ l2 then
    xr (-1)
  else
    f_St_ranked_h13 k2 1000 l0 l1 l2 0 0
def f_St_ranked_h2  : Nat → Nat → Int32 → Int32 → xM Int32
  | 0, _, _, _ => xst
  | n + 1, l0, l1, l2 => f_St_ranked_b2 (f_St_ranked_h2 n) l0 l1 l2
def f_St_ranked  (l0 : Nat) (l1 : Int32) : xM Int32 :=
  f_St_ranked_h2 1000 l0 l1 0
/-! ReadSide$State.worth(II)J -/
def f_St_worth_b51 (k5 : Nat → Int32 → Int32 → Int64 → Int32 → xM Int64) (l0 : Nat) (l1 : Int32) (l2 : Int32) (l3 : Int64) (l5 : Int32) : xM Int64 :=
  k5 l0 l1 l2 l3 (l5 + 1)
def f_St_worth_b25 (k5 : Nat → Int32 → Int32 → Int64 → Int32 → xM Int64) (l0 : Nat) (l1 : Int32) (l2 : Int32) (l3 : Int64) (l5 : Int32) : xM Int64 :=
  gA l0 7 0 fun v1 =>
  lA 3 v1 l5 fun v2 =>
  gI v2 2 0 fun v3 =>
  gA l0 7 0 fun v4 =>
  lA 3 v4 l5 fun v5 =>
  gI v5 2 3 fun v6 =>
  f_St_worth_b51 k5 l0 l1 l2 (l3 + (v3.toInt64 * v6.toInt64)) l5
def f_St_worth_b5 (k5 : Nat → Int32 → Int32 → Int64 → Int32 → xM Int64) (l0 : Nat) (l1 : Int32) (l2 : Int32) (l3 : Int64) (l5 : Int32) : xM Int64 :=
  if (30 : Int32) ≤ l5 then
    xr l3
  else
    if l1 = (-1) then
      f_St_worth_b25 k5 l0 l1 l2 l3 l5
    else
      rI l5 l2 fun v1 =>
      if v1 = l1 then
        f_St_worth_b25 k5 l0 l1 l2 l3 l5
      else
        f_St_worth_b51 k5 l0 l1 l2 l3 l5
def f_St_worth_h5  : Nat → Nat → Int32 → Int32 → Int64 → Int32 → xM Int64
  | 0, _, _, _, _, _ => xst
  | n + 1, l0, l1, l2, l3, l5 => f_St_worth_b5 (f_St_worth_h5 n) l0 l1 l2 l3 l5
def f_St_worth  (l0 : Nat) (l1 : Int32) (l2 : Int32) : xM Int64 :=
  f_St_worth_h5 1000 l0 l1 l2 0 0
/-! ReadSide$State.answer(III)J -/
def f_St_answer  (l0 : Nat) (l1 : Int32) (l2 : Int32) (l3 : Int32) : xM Int64 :=
  if l1 = 0 then
    gA l0 7 0 fun v1 =>
    lA 3 v1 l2 fun v2 =>
    gI v2 2 0 fun v3 =>
    xr v3.toInt64
  else
  if l1 = 1 then
    gA l0 7 0 fun v4 =>
    lA 3 v4 l2 fun v5 =>
    gI v5 2 1 fun v6 =>
    xr v6.toInt64
  else
  if l1 = 2 then
    gA l0 7 0 fun v7 =>
    lA 3 v7 l2 fun v8 =>
    gI v8 2 2 fun v9 =>
    xr v9.toInt64
  else
  if l1 = 3 then
    gA l0 7 0 fun v10 =>
    lA 3 v10 l2 fun v11 =>
    gI v11 2 3 fun v12 =>
    xr v12.toInt64
  else
  if l1 = 4 then
    gA l0 7 1 fun v13 =>
    lJ v13 l2 fun v14 =>
    xr v14
  else
  if l1 = 5 then
    xv l0 7 <| xb (f_St_held l0 l2) fun v15 =>
    xr v15
  else
  if l1 = 6 then
    gA l0 7 2 fun v16 =>
    lI v16 l2 fun v17 =>
    xr v17.toInt64
  else
  if l1 = 7 then
    xv l0 7 <| xb (f_St_ranked l0 l2) fun v18 =>
    xr v18.toInt64
  else
    xv l0 7 <| xb (f_St_worth l0 l2 l3) fun v19 =>
    xr v19
/-! ReadSide$Vector.check(J)J -/
def f_Vec_check  (l0 : Int64) : xM Int64 :=
  xr (((l0 * (-7046029254386353131)).toUInt64 >>> ((44 : Int32).toInt64.toUInt64 &&& Int64.toUInt64 63)).toInt64)
/-! ReadSide$Vector.token()J -/
def f_Vec_token  (l0 : Nat) : xM Int64 :=
  gA l0 8 0 fun v1 =>
  lI v1 0 fun v2 =>
  gA l0 8 0 fun v3 =>
  lI v3 1 fun v4 =>
  gA l0 8 0 fun v5 =>
  lI v5 2 fun v6 =>
  xb (f_Vec_check ((v2.toInt64 + (512 * v4.toInt64)) + (262144 * v6.toInt64))) fun v7 =>
  xr ((((v2.toInt64 + (512 * v4.toInt64)) + (262144 * v6.toInt64)) <<< ((20 : Int32).toInt64 &&& 63)) + v7)
/-! java/lang/Math.max(II)I -/
def f_Math_max_b10  (t0 : Int32) : xM Int32 :=
  xr t0
def f_Math_max  (l0 : Int32) (l1 : Int32) : xM Int32 :=
  if l0 < l1 then
    f_Math_max_b10 l1
  else
    f_Math_max_b10 l0
/-! ReadSide$Vector.rise(LReadSide$Vector;)V -/
def f_Vec_rise_b2 (k2 : Nat → Nat → Int32 → xM Unit) (l0 : Nat) (l1 : Nat) (l2 : Int32) : xM Unit :=
  if (3 : Int32) ≤ l2 then
    xr ()
  else
    gA l0 8 0 fun v1 =>
    gA l0 8 0 fun v2 =>
    lI v2 l2 fun v3 =>
    gA l1 8 0 fun v4 =>
    lI v4 l2 fun v5 =>
    xb (f_Math_max v3 v5) fun v6 =>
    sI v1 l2 v6 <|
    k2 l0 l1 (l2 + 1)
def f_Vec_rise_h2  : Nat → Nat → Nat → Int32 → xM Unit
  | 0, _, _, _ => xst
  | n + 1, l0, l1, l2 => f_Vec_rise_b2 (f_Vec_rise_h2 n) l0 l1 l2
def f_Vec_rise  (l0 : Nat) (l1 : Nat) : xM Unit :=
  f_Vec_rise_h2 1000 l0 l1 0
/-! ReadSide.answer(LReadSide$Read;I)V -/
def f_RS_answer  (l0 : Nat) (l1 : Nat) (l2 : Int32) : xM Unit :=
  gA l0 0 2 fun v1 =>
  lA 6 v1 l2 fun v2 =>
  pV l1 4 7 (.int 1) <|
  pV l1 4 8 (.int l2) <|
  gA v2 5 0 fun v3 =>
  gI l1 4 5 fun v4 =>
  gI l1 4 6 fun v5 =>
  gI l0 0 0 fun v6 =>
  xv v3 7 <| xb (f_St_answer v3 v4 v5 v6) fun v7 =>
  pV l1 4 9 (.long v7) <|
  gA v2 5 0 fun v8 =>
  gA v8 7 3 fun v9 =>
  xv v9 8 <| xb (f_Vec_token v9) fun v10 =>
  pV l1 4 10 (.long v10) <|
  gJ l0 0 10 fun v11 =>
  pV l1 4 11 (.long v11) <|
  gA l0 0 3 fun v12 =>
  gI l1 4 1 fun v13 =>
  lA 7 v12 v13 fun v14 =>
  gA v14 6 3 fun v15 =>
  gA v2 5 0 fun v16 =>
  gA v16 7 3 fun v17 =>
  xv v15 8 <| xb (f_Vec_rise v15 v17) fun v18 =>
  gI l0 0 8 fun v19 =>
  pV l0 0 8 (.int (v19 + 1)) <|
  xr ()
/-! ReadSide.leave(I)V -/
def f_RS_leave_b12 (k12 : Nat → Int32 → xM Unit) (l0 : Nat) (l2 : Int32) : xM Unit :=
  gI l0 0 7 fun v1 =>
  if v1 ≤ l2 then
    xr ()
  else
    gA l0 0 6 fun v2 =>
    gA l0 0 6 fun v3 =>
    lI v3 (l2 + 1) fun v4 =>
    sI v2 l2 v4 <|
    k12 l0 (l2 + 1)
def f_RS_leave_h12  : Nat → Nat → Int32 → xM Unit
  | 0, _, _ => xst
  | n + 1, l0, l2 => f_RS_leave_b12 (f_RS_leave_h12 n) l0 l2
def f_RS_leave  (l0 : Nat) (l1 : Int32) : xM Unit :=
  gI l0 0 7 fun v1 =>
  pV l0 0 7 (.int (v1 - 1)) <|
  f_RS_leave_h12 1000 l0 l1
/-! ReadSide.look(LReadSide$Replica;)V -/
def f_RS_look_b52 (k2 : Nat → Nat → Int32 → xM Unit) (l0 : Nat) (l1 : Nat) (l2 : Int32) : xM Unit :=
  k2 l0 l1 l2
def f_RS_look_b2 (k2 : Nat → Nat → Int32 → xM Unit) (l0 : Nat) (l1 : Nat) (l2 : Int32) : xM Unit :=
  gI l0 0 7 fun v1 =>
  if v1 ≤ l2 then
    xr ()
  else
    gA l0 0 4 fun v2 =>
    gA l0 0 6 fun v3 =>
    lI v3 l2 fun v4 =>
    lA 8 v2 v4 fun v5 =>
    xv l0 0 <| xb (f_RS_may l0 l1 v5) fun v6 =>
    if v6 = 0 then
      f_RS_look_b52 k2 l0 l1 (l2 + 1)
    else
      xv l0 0 <| xb (f_RS_numberOf l0 l1) fun v7 =>
      xv l0 0 <| xb (f_RS_answer l0 v5 v7) fun v8 =>
      xv l0 0 <| xb (f_RS_leave l0 l2) fun v9 =>
      f_RS_look_b52 k2 l0 l1 l2
def f_RS_look_h2  : Nat → Nat → Nat → Int32 → xM Unit
  | 0, _, _, _ => xst
  | n + 1, l0, l1, l2 => f_RS_look_b2 (f_RS_look_h2 n) l0 l1 l2
def f_RS_look  (l0 : Nat) (l1 : Nat) : xM Unit :=
  f_RS_look_h2 1000 l0 l1 0
/-! ReadSide.index(II)I -/
def f_RS_index_b9   : xM Int32 :=
  xth 10
def f_RS_index  (l0 : Int32) (l1 : Int32) : xM Int32 :=
  if l0 < 0 then
    f_RS_index_b9
  else
    if l0 < l1 then
      xr l0
    else
      f_RS_index_b9
/-! ReadSide.sessionAt(I)LReadSide$Session; -/
def f_RS_sessionAt  (l0 : Nat) (l1 : Int32) : xM Nat :=
  gA l0 0 3 fun v1 =>
  xb (f_RS_index l1 8) fun v2 =>
  lA 7 v1 v2 fun v3 =>
  xr v3
/-! ReadSide.want(Z)V -/
def f_RS_want  (l0 : Int32) : xM Unit :=
  if l0 = 0 then
    xth 11
  else
    xr ()
/-! ReadSide.mode(II)I -/
def f_RS_mode_b43 (k43 : Nat → Int32 → Nat → Int32 → Int32 → xM Int32) (l0 : Nat) (l4 : Int32) (l5 : Nat) (l6 : Int32) (l7 : Int32) : xM Int32 :=
  if l6 ≤ l7 then
    xr l4
  else
    lA 6 l5 l7 fun v1 =>
    xv l0 0 <| xb (f_RS_look l0 v1) fun v2 =>
    k43 l0 l4 l5 l6 (l7 + 1)
def f_RS_mode_h43  : Nat → Nat → Int32 → Nat → Int32 → Int32 → xM Int32
  | 0, _, _, _, _, _ => xst
  | n + 1, l0, l4, l5, l6, l7 => f_RS_mode_b43 (f_RS_mode_h43 n) l0 l4 l5 l6 l7
def f_RS_mode  (l0 : Nat) (l1 : Int32) (l2 : Int32) : xM Int32 :=
  xv l0 0 <| xb (f_RS_sessionAt l0 l1) fun v1 =>
  xb (f_RS_isIn l2.toInt64 0 15) fun v2 =>
  xb (f_RS_want v2) fun v3 =>
  gI v1 6 0 fun v4 =>
  pV v1 6 0 (.int l2) <|
  gA l0 0 2 fun v5 =>
  aL v5 fun v6 =>
  f_RS_mode_h43 1000 l0 v4 v5 v6 0
/-! ReadSideLaw.mode(LReadSide;II[J)I -/
def f_law_mode  (l0 : Nat) (l1 : Int32) (l2 : Int32) (l3 : Nat) : xM Int32 :=
  xv l0 0 <| xc (f_RS_mode l0 l1 l2) (fun v1 =>
    sJ l3 0 v1.toInt64 <|
    xr 0
  )
  (fun a ci =>
  if ci = 10 then
    xr 1
  else
  if ci = 11 then
    xr 2
  else
  xst)
/-! ReadSide.replicaAt(I)LReadSide$Replica; -/
def f_RS_replicaAt  (l0 : Nat) (l1 : Int32) : xM Nat :=
  gA l0 0 2 fun v1 =>
  gA l0 0 2 fun v2 =>
  aL v2 fun v3 =>
  xb (f_RS_index l1 v3) fun v4 =>
  lA 6 v1 v4 fun v5 =>
  xr v5
/-! ReadSide.home(II)I -/
def f_RS_home  (l0 : Nat) (l1 : Int32) (l2 : Int32) : xM Int32 :=
  xv l0 0 <| xb (f_RS_sessionAt l0 l1) fun v1 =>
  xv l0 0 <| xb (f_RS_replicaAt l0 l2) fun v2 =>
  gI v1 6 1 fun v3 =>
  pV v1 6 1 (.int l2) <|
  xr v3
/-! ReadSideLaw.home(LReadSide;II[J)I -/
def f_law_home  (l0 : Nat) (l1 : Int32) (l2 : Int32) (l3 : Nat) : xM Int32 :=
  xv l0 0 <| xc (f_RS_home l0 l1 l2) (fun v1 =>
    sJ l3 0 v1.toInt64 <|
    xr 0
  )
  (fun a ci =>
  if ci = 10 then
    xr 1
  else
  xst)
/-! ReadSide$Vector.copy(LReadSide$Vector;)V -/
def f_Vec_copy_b2 (k2 : Nat → Nat → Int32 → xM Unit) (l0 : Nat) (l1 : Nat) (l2 : Int32) : xM Unit :=
  if (3 : Int32) ≤ l2 then
    xr ()
  else
    gA l0 8 0 fun v1 =>
    gA l1 8 0 fun v2 =>
    lI v2 l2 fun v3 =>
    sI v1 l2 v3 <|
    k2 l0 l1 (l2 + 1)
def f_Vec_copy_h2  : Nat → Nat → Nat → Int32 → xM Unit
  | 0, _, _, _ => xst
  | n + 1, l0, l1, l2 => f_Vec_copy_b2 (f_Vec_copy_h2 n) l0 l1 l2
def f_Vec_copy  (l0 : Nat) (l1 : Nat) : xM Unit :=
  f_Vec_copy_h2 1000 l0 l1 0
/-! ReadSide.need(Z)V -/
def f_RS_need  (l0 : Int32) : xM Unit :=
  if l0 = 0 then
    xth 12
  else
    xr ()
/-! ReadSide$Command.<init>(IIII)V -/
def f_Cmd_init  (l0 : Nat) (l1 : Int32) (l2 : Int32) (l3 : Int32) (l4 : Int32) : xM Unit :=
  nE 1 (.inr (8, z_Vec)) fun a1 =>
  xb (f_Vec_init a1) fun v2 =>
  pV l0 1 4 (.ref a1) <|
  pV l0 1 0 (.int l1) <|
  pV l0 1 1 (.int l2) <|
  pV l0 1 2 (.int l3) <|
  pV l0 1 3 (.int l4) <|
  xr ()
/-! ReadSide.command(IIIII)J -/
def f_RS_command_b151  (l6 : Nat) (l7 : Int32) (l8 : Nat) (l9 : Nat) : xM Int64 :=
  gA l8 3 0 fun v1 =>
  gI l8 3 1 fun v2 =>
  pV l8 3 1 (.int (v2 + 1)) <|
  sA 4 v1 v2 l9 <|
  gA l6 6 2 fun v3 =>
  gA v3 8 0 fun v4 =>
  gI l8 3 1 fun v5 =>
  sI v4 l7 v5 <|
  nE 1 (.inr (8, z_Vec)) fun a6 =>
  xb (f_Vec_init a6) fun v7 =>
  gA l9 1 4 fun v8 =>
  xv a6 8 <| xb (f_Vec_copy a6 v8) fun v9 =>
  gA a6 8 0 fun v10 =>
  gI l8 3 1 fun v11 =>
  sI v10 l7 v11 <|
  xv a6 8 <| xb (f_Vec_token a6) fun v12 =>
  xr v12
def f_RS_command_b128  (l6 : Nat) (l7 : Int32) (l8 : Nat) (l9 : Nat) : xM Int64 :=
  xv l6 6 <| xb (f_Sess_has l6 8) fun v1 =>
  if v1 = 0 then
    f_RS_command_b151 l6 l7 l8 l9
  else
    gA l9 1 4 fun v2 =>
    gA l6 6 2 fun v3 =>
    xv v2 8 <| xb (f_Vec_rise v2 v3) fun v4 =>
    f_RS_command_b151 l6 l7 l8 l9
def f_RS_command_b88  (l2 : Int32) (l3 : Int32) (l4 : Int32) (l5 : Int32) (l6 : Nat) (l7 : Int32) (l8 : Nat) (t0 : Int32) : xM Int64 :=
  xb (f_RS_need t0) fun v1 =>
  nE 5 (.inr (1, z_Cmd)) fun a2 =>
  xb (f_Cmd_init a2 l2 l3 l4 l5) fun v3 =>
  xv l6 6 <| xb (f_Sess_has l6 4) fun v4 =>
  if v4 = 0 then
    f_RS_command_b128 l6 l7 l8 a2
  else
    gA a2 1 4 fun v5 =>
    gA l6 6 3 fun v6 =>
    xv v5 8 <| xb (f_Vec_rise v5 v6) fun v7 =>
    f_RS_command_b128 l6 l7 l8 a2
def f_RS_command_b52  (l0 : Nat) (l2 : Int32) (l3 : Int32) (l4 : Int32) (l5 : Int32) (l6 : Nat) (t0 : Int32) : xM Int64 :=
  xb (f_RS_want t0) fun v1 =>
  gI l0 0 0 fun v2 =>
  rI l3 v2 fun v3 =>
  gA l0 0 1 fun v4 =>
  lA 5 v4 v3 fun v5 =>
  gI v5 3 1 fun v6 =>
  if (400 : Int32) ≤ v6 then
    f_RS_command_b88 l2 l3 l4 l5 l6 v3 v5 0
  else
    f_RS_command_b88 l2 l3 l4 l5 l6 v3 v5 1
def f_RS_command_b51  (l0 : Nat) (l2 : Int32) (l3 : Int32) (l4 : Int32) (l5 : Int32) (l6 : Nat) : xM Int64 :=
  f_RS_command_b52 l0 l2 l3 l4 l5 l6 0
def f_RS_command  (l0 : Nat) (l1 : Int32) (l2 : Int32) (l3 : Int32) (l4 : Int32) (l5 : Int32) : xM Int64 :=
  xv l0 0 <| xb (f_RS_sessionAt l0 l1) fun v1 =>
  xb (f_RS_index l3 30) fun v2 =>
  xb (f_RS_index l4 10) fun v3 =>
  xb (f_RS_isIn l2.toInt64 0 4) fun v4 =>
  if v4 = 0 then
    f_RS_command_b51 l0 l2 l3 l4 l5 v1
  else
    xb (f_RS_isIn l5.toInt64 1 1000) fun v5 =>
    if v5 = 0 then
      f_RS_command_b51 l0 l2 l3 l4 l5 v1
    else
      f_RS_command_b52 l0 l2 l3 l4 l5 v1 1
/-! ReadSideLaw.command(LReadSide;IIIII[J)I -/
def f_law_command  (l0 : Nat) (l1 : Int32) (l2 : Int32) (l3 : Int32) (l4 : Int32) (l5 : Int32) (l6 : Nat) : xM Int32 :=
  xv l0 0 <| xc (f_RS_command l0 l1 l2 l3 l4 l5) (fun v1 =>
    sJ l6 0 v1 <|
    xr 0
  )
  (fun a ci =>
  if ci = 10 then
    xr 1
  else
  if ci = 11 then
    xr 2
  else
  if ci = 12 then
    xr 3
  else
  xst)
/-! ReadSide$Log.at(I)LReadSide$Command; -/
def f_Log_at  (l0 : Nat) (l1 : Int32) : xM Nat :=
  gA l0 3 0 fun v1 =>
  lA 4 v1 (l1 - 1) fun v2 =>
  xr v2
/-! ReadSide$State.hold(LReadSide$Item;II)V -/
def f_St_hold  (l0 : Nat) (l1 : Int32) (l2 : Int32) : xM Unit :=
  gA l0 2 4 fun v1 =>
  lI v1 l1 fun v2 =>
  sI v1 l1 (v2 + l2) <|
  gI l0 2 1 fun v3 =>
  pV l0 2 1 (.int (v3 + l2)) <|
  xr ()
/-! ReadSide$State.take(LReadSide$Command;)V -/
def f_St_take_b212   : xM Unit :=
  xr ()
def f_St_take  (l0 : Nat) (l1 : Nat) : xM Unit :=
  gA l0 7 0 fun v1 =>
  gI l1 1 1 fun v2 =>
  lA 3 v1 v2 fun v3 =>
  gI l1 1 3 fun v4 =>
  gI l1 1 0 fun v5 =>
  if v5 = 0 then
    gI v3 2 0 fun v6 =>
    if (100000 : Int32) < (v6 + v4) then
      f_St_take_b212
    else
      gI v3 2 0 fun v7 =>
      pV v3 2 0 (.int (v7 + v4)) <|
      f_St_take_b212
  else
  if v5 = 1 then
    gI v3 2 0 fun v8 =>
    gI v3 2 1 fun v9 =>
    if v4 ≤ (v8 - v9) then
      gI l1 1 2 fun v10 =>
      xb (f_St_hold v3 v10 v4) fun v11 =>
      f_St_take_b212
    else
      gA l0 7 2 fun v12 =>
      gI l1 1 2 fun v13 =>
      lI v12 v13 fun v14 =>
      sI v12 v13 (v14 + 1) <|
      f_St_take_b212
  else
  if v5 = 2 then
    gA v3 2 4 fun v15 =>
    gI l1 1 2 fun v16 =>
    lI v15 v16 fun v17 =>
    if v4 ≤ v17 then
      gI l1 1 2 fun v18 =>
      xb (f_St_hold v3 v18 (-v4)) fun v19 =>
      gI v3 2 0 fun v20 =>
      pV v3 2 0 (.int (v20 - v4)) <|
      gI v3 2 2 fun v21 =>
      pV v3 2 2 (.int (v21 + v4)) <|
      gA l0 7 1 fun v22 =>
      gI l1 1 2 fun v23 =>
      lJ v22 v23 fun v24 =>
      gI v3 2 3 fun v25 =>
      sJ v22 v23 (v24 + (v4.toInt64 * v25.toInt64)) <|
      f_St_take_b212
    else
      f_St_take_b212
  else
  if v5 = 3 then
    gI l1 1 2 fun v26 =>
    gA v3 2 4 fun v27 =>
    gI l1 1 2 fun v28 =>
    lI v27 v28 fun v29 =>
    xb (f_Math_min v4 v29) fun v30 =>
    xb (f_St_hold v3 v26 (-v30)) fun v31 =>
    f_St_take_b212
  else
    pV v3 2 3 (.int v4) <|
    f_St_take_b212
/-! ReadSide.advance(LReadSide$Replica;I)I -/
def f_RS_advance  (l0 : Nat) (l1 : Nat) (l2 : Int32) : xM Int32 :=
  gA l1 5 0 fun v1 =>
  gA v1 7 3 fun v2 =>
  gA v2 8 0 fun v3 =>
  lI v3 l2 fun v4 =>
  gA l0 0 1 fun v5 =>
  lA 5 v5 l2 fun v6 =>
  gI v6 3 1 fun v7 =>
  if v4 = v7 then
    xr 0
  else
    gA l0 0 1 fun v8 =>
    lA 5 v8 l2 fun v9 =>
    xv v9 3 <| xb (f_Log_at v9 (v4 + 1)) fun v10 =>
    gA l1 5 0 fun v11 =>
    gA v11 7 3 fun v12 =>
    gA v10 1 4 fun v13 =>
    xv v12 8 <| xb (f_Vec_covers v12 v13) fun v14 =>
    if v14 = 0 then
      xr (-1)
    else
      gA l1 5 0 fun v15 =>
      xv v15 7 <| xb (f_St_take v15 v10) fun v16 =>
      gA l1 5 0 fun v17 =>
      gA v17 7 3 fun v18 =>
      gA v18 8 0 fun v19 =>
      lI v19 l2 fun v20 =>
      sI v19 l2 (v20 + 1) <|
      gI l0 0 0 fun v21 =>
      rI (l2 + 1) v21 fun v22 =>
      pV l1 5 4 (.int v22) <|
      xv l0 0 <| xb (f_RS_look l0 l1) fun v23 =>
      xr 1
/-! ReadSide.step(II)I -/
def f_RS_step_b33  (t0 : Int32) : xM Int32 :=
  xr t0
def f_RS_step  (l0 : Nat) (l1 : Int32) (l2 : Int32) : xM Int32 :=
  xv l0 0 <| xb (f_RS_replicaAt l0 l1) fun v1 =>
  gI l0 0 0 fun v2 =>
  xb (f_RS_index l2 v2) fun v3 =>
  gI v1 5 2 fun v4 =>
  if v4 = 0 then
    f_RS_step_b33 (-2)
  else
    xv l0 0 <| xb (f_RS_advance l0 v1 l2) fun v5 =>
    f_RS_step_b33 v5
/-! ReadSideLaw.step(LReadSide;II[J)I -/
def f_law_step  (l0 : Nat) (l1 : Int32) (l2 : Int32) (l3 : Nat) : xM Int32 :=
  xv l0 0 <| xc (f_RS_step l0 l1 l2) (fun v1 =>
    sJ l3 0 v1.toInt64 <|
    xr 0
  )
  (fun a ci =>
  if ci = 10 then
    xr 1
  else
  xst)
/-! ReadSide.speed(II)I -/
def f_RS_speed  (l0 : Nat) (l1 : Int32) (l2 : Int32) : xM Int32 :=
  xv l0 0 <| xb (f_RS_replicaAt l0 l1) fun v1 =>
  xb (f_RS_isIn l2.toInt64 0 10) fun v2 =>
  xb (f_RS_want v2) fun v3 =>
  gI v1 5 3 fun v4 =>
  pV v1 5 3 (.int l2) <|
  xr v4
/-! ReadSideLaw.speed(LReadSide;II[J)I -/
def f_law_speed  (l0 : Nat) (l1 : Int32) (l2 : Int32) (l3 : Nat) : xM Int32 :=
  xv l0 0 <| xc (f_RS_speed l0 l1 l2) (fun v1 =>
    sJ l3 0 v1.toInt64 <|
    xr 0
  )
  (fun a ci =>
  if ci = 10 then
    xr 1
  else
  if ci = 11 then
    xr 2
  else
  xst)
/-! ReadSide.fail(LReadSide$Read;)V -/
def f_RS_fail  (l0 : Nat) (l1 : Nat) : xM Unit :=
  pV l1 4 7 (.int 2) <|
  gJ l0 0 10 fun v1 =>
  pV l1 4 11 (.long v1) <|
  gI l0 0 9 fun v2 =>
  pV l0 0 9 (.int (v2 + 1)) <|
  xr ()
/-! ReadSide.hurry(LReadSide$Replica;)I -/
def f_RS_hurry_b84  (l2 : Int32) : xM Int32 :=
  xr l2
def f_RS_hurry_b70 (k10 : Nat → Nat → Int32 → Int32 → Int32 → xM Int32) (l0 : Nat) (l1 : Nat) (l2 : Int32) (l3 : Int32) (t0 : Int32) : xM Int32 :=
  gI l0 0 0 fun v1 =>
  rI (l3 + 1) v1 fun v2 =>
  k10 l0 l1 l2 v2 t0
def f_RS_hurry_b55 (k10 : Nat → Nat → Int32 → Int32 → Int32 → xM Int32) (l0 : Nat) (l1 : Nat) (l3 : Int32) (l4 : Int32) (l5 : Int32) (t0 : Int32) (t1 : Int32) : xM Int32 :=
  if l5 = 0 then
    f_RS_hurry_b70 k10 l0 l1 (t1 + t0) l3 (l4 + 1)
  else
    f_RS_hurry_b70 k10 l0 l1 (t1 + t0) l3 0
def f_RS_hurry_b42 (k10 : Nat → Nat → Int32 → Int32 → Int32 → xM Int32) (l0 : Nat) (l1 : Nat) (l2 : Int32) (l3 : Int32) (l4 : Int32) (t0 : Int32) : xM Int32 :=
  if t0 = 0 then
    f_RS_hurry_b55 k10 l0 l1 l3 l4 t0 0 l2
  else
    f_RS_hurry_b55 k10 l0 l1 l3 l4 t0 1 l2
def f_RS_hurry_b10 (k10 : Nat → Nat → Int32 → Int32 → Int32 → xM Int32) (l0 : Nat) (l1 : Nat) (l2 : Int32) (l3 : Int32) (l4 : Int32) : xM Int32 :=
  gI l1 5 3 fun v1 =>
  if v1 ≤ l2 then
    f_RS_hurry_b84 l2
  else
    gI l0 0 0 fun v2 =>
    if v2 ≤ l4 then
      f_RS_hurry_b84 l2
    else
      xv l0 0 <| xb (f_RS_advance l0 l1 l3) fun v3 =>
      if v3 = 1 then
        f_RS_hurry_b42 k10 l0 l1 l2 l3 l4 1
      else
        f_RS_hurry_b42 k10 l0 l1 l2 l3 l4 0
def f_RS_hurry_h10  : Nat → Nat → Nat → Int32 → Int32 → Int32 → xM Int32
  | 0, _, _, _, _, _ => xst
  | n + 1, l0, l1, l2, l3, l4 => f_RS_hurry_b10 (f_RS_hurry_h10 n) l0 l1 l2 l3 l4
def f_RS_hurry  (l0 : Nat) (l1 : Nat) : xM Int32 :=
  gI l1 5 4 fun v1 =>
  f_RS_hurry_h10 1000 l0 l1 0 v1 0
/-! ReadSide.ticks(I)I -/
def f_RS_ticks_b143 (k16 : Nat → Int32 → Int32 → Int32 → xM Int32) (k89 : Nat → Int32 → Int32 → Int32 → Int32 → xM Int32) (l0 : Nat) (l1 : Int32) (l2 : Int32) (l3 : Int32) (l4 : Int32) : xM Int32 :=
  k89 l0 l1 l2 l3 l4
def f_RS_ticks_b89 (k16 : Nat → Int32 → Int32 → Int32 → xM Int32) (k89 : Nat → Int32 → Int32 → Int32 → Int32 → xM Int32) (l0 : Nat) (l1 : Int32) (l2 : Int32) (l3 : Int32) (l4 : Int32) : xM Int32 :=
  gI l0 0 7 fun v1 =>
  if v1 ≤ l4 then
    k16 l0 l1 l2 (l3 + 1)
  else
    gA l0 0 4 fun v2 =>
    gA l0 0 6 fun v3 =>
    lI v3 l4 fun v4 =>
    lA 8 v2 v4 fun v5 =>
    gJ v5 4 4 fun v6 =>
    gJ l0 0 10 fun v7 =>
    if (lg_cmp v6 v7) ≤ 0 then
      xv l0 0 <| xb (f_RS_fail l0 v5) fun v8 =>
      xv l0 0 <| xb (f_RS_leave l0 l4) fun v9 =>
      f_RS_ticks_b143 k16 k89 l0 l1 l2 l3 l4
    else
      f_RS_ticks_b143 k16 k89 l0 l1 l2 l3 (l4 + 1)
def f_RS_ticks_h89 (k16 : Nat → Int32 → Int32 → Int32 → xM Int32) : Nat → Nat → Int32 → Int32 → Int32 → Int32 → xM Int32
  | 0, _, _, _, _, _ => xst
  | n + 1, l0, l1, l2, l3, l4 => f_RS_ticks_b89 k16 (f_RS_ticks_h89 k16 n) l0 l1 l2 l3 l4
def f_RS_ticks_b78 (k16 : Nat → Int32 → Int32 → Int32 → xM Int32) (k45 : Nat → Int32 → Int32 → Int32 → Nat → Int32 → Int32 → xM Int32) (l0 : Nat) (l1 : Int32) (l3 : Int32) (l4 : Nat) (l5 : Int32) (l6 : Int32) (t0 : Int32) (t1 : Int32) : xM Int32 :=
  k45 l0 l1 (t1 + t0) l3 l4 l5 (l6 + 1)
def f_RS_ticks_b45 (k16 : Nat → Int32 → Int32 → Int32 → xM Int32) (k45 : Nat → Int32 → Int32 → Int32 → Nat → Int32 → Int32 → xM Int32) (l0 : Nat) (l1 : Int32) (l2 : Int32) (l3 : Int32) (l4 : Nat) (l5 : Int32) (l6 : Int32) : xM Int32 :=
  if l5 ≤ l6 then
    f_RS_ticks_h89 k16 1000 l0 l1 l2 l3 0
  else
    lA 6 l4 l6 fun v1 =>
    gI v1 5 2 fun v2 =>
    if v2 = 0 then
      f_RS_ticks_b78 k16 k45 l0 l1 l3 l4 l5 l6 0 l2
    else
      xv l0 0 <| xb (f_RS_hurry l0 v1) fun v3 =>
      f_RS_ticks_b78 k16 k45 l0 l1 l3 l4 l5 l6 v3 l2
def f_RS_ticks_h45 (k16 : Nat → Int32 → Int32 → Int32 → xM Int32) : Nat → Nat → Int32 → Int32 → Int32 → Nat → Int32 → Int32 → xM Int32
  | 0, _, _, _, _, _, _, _ => xst
  | n + 1, l0, l1, l2, l3, l4, l5, l6 => f_RS_ticks_b45 k16 (f_RS_ticks_h45 k16 n) l0 l1 l2 l3 l4 l5 l6
def f_RS_ticks_b16 (k16 : Nat → Int32 → Int32 → Int32 → xM Int32) (l0 : Nat) (l1 : Int32) (l2 : Int32) (l3 : Int32) : xM Int32 :=
  if l1 ≤ l3 then
    xr l2
  else
    gJ l0 0 10 fun v1 =>
    pV l0 0 10 (.long (v1 + 1)) <|
    gA l0 0 2 fun v2 =>
    aL v2 fun v3 =>
    f_RS_ticks_h45 k16 1000 l0 l1 l2 l3 v2 v3 0
def f_RS_ticks_h16  : Nat → Nat → Int32 → Int32 → Int32 → xM Int32
  | 0, _, _, _, _ => xst
  | n + 1, l0, l1, l2, l3 => f_RS_ticks_b16 (f_RS_ticks_h16 n) l0 l1 l2 l3
def f_RS_ticks  (l0 : Nat) (l1 : Int32) : xM Int32 :=
  xb (f_RS_isIn l1.toInt64 0 100) fun v1 =>
  xb (f_RS_want v1) fun v2 =>
  f_RS_ticks_h16 1000 l0 l1 0 0
/-! ReadSideLaw.ticks(LReadSide;I[J)I -/
def f_law_ticks  (l0 : Nat) (l1 : Int32) (l2 : Nat) : xM Int32 :=
  xv l0 0 <| xc (f_RS_ticks l0 l1) (fun v1 =>
    sJ l2 0 v1.toInt64 <|
    xr 0
  )
  (fun a ci =>
  if ci = 11 then
    xr 1
  else
  xst)
/-! ReadSide.up(IZ)Z -/
def f_RS_up_b31  (l4 : Int32) : xM Int32 :=
  if l4 = 0 ∨ l4 = 1 then xr l4 else xst
def f_RS_up  (l0 : Nat) (l1 : Int32) (l2 : Int32) : xM Int32 :=
  xv l0 0 <| xb (f_RS_replicaAt l0 l1) fun v1 =>
  gI v1 5 2 fun v2 =>
  pZ v1 5 2 l2 <|
  if l2 = 0 then
    f_RS_up_b31 v2
  else
    if v2 = 0 then
      xv l0 0 <| xb (f_RS_look l0 v1) fun v3 =>
      f_RS_up_b31 v2
    else
      f_RS_up_b31 v2
/-! ReadSideLaw.up(LReadSide;IZ[J)I -/
def f_law_up_b16  (t0 : Int64) (t1 : Int32) (t2 : Nat) : xM Int32 :=
  sJ t2 t1 t0 <|
  xr 0
def f_law_up  (l0 : Nat) (l1 : Int32) (l2 : Int32) (l3 : Nat) : xM Int32 :=
  xv l0 0 <| xc (f_RS_up l0 l1 l2) (fun v1 =>
    if v1 = 0 then
      f_law_up_b16 0 0 l3
    else
      f_law_up_b16 1 0 l3
  )
  (fun a ci =>
  if ci = 10 then
    xr 1
  else
  xst)
/-! ReadSide$Item.copy(LReadSide$Item;)V -/
def f_Item_copy  (l0 : Nat) (l1 : Nat) : xM Unit :=
  gI l1 2 0 fun v1 =>
  pV l0 2 0 (.int v1) <|
  gI l1 2 1 fun v2 =>
  pV l0 2 1 (.int v2) <|
  gI l1 2 2 fun v3 =>
  pV l0 2 2 (.int v3) <|
  gI l1 2 3 fun v4 =>
  pV l0 2 3 (.int v4) <|
  gA l1 2 4 fun v5 =>
  gA l0 2 4 fun v6 =>
  cI v5 0 v6 0 10 <|
  xr ()
/-! ReadSide$State.copy(LReadSide$State;)V -/
def f_St_copy_b2 (k2 : Nat → Nat → Int32 → xM Unit) (l0 : Nat) (l1 : Nat) (l2 : Int32) : xM Unit :=
  if (30 : Int32) ≤ l2 then
    gA l1 7 1 fun v1 =>
    gA l0 7 1 fun v2 =>
    cJ v1 0 v2 0 10 <|
    gA l1 7 2 fun v3 =>
    gA l0 7 2 fun v4 =>
    cI v3 0 v4 0 10 <|
    gA l0 7 3 fun v5 =>
    gA l1 7 3 fun v6 =>
    xv v5 8 <| xb (f_Vec_copy v5 v6) fun v7 =>
    xr ()
  else
    gA l0 7 0 fun v8 =>
    lA 3 v8 l2 fun v9 =>
    gA l1 7 0 fun v10 =>
    lA 3 v10 l2 fun v11 =>
    xv v9 2 <| xb (f_Item_copy v9 v11) fun v12 =>
    k2 l0 l1 (l2 + 1)
def f_St_copy_h2  : Nat → Nat → Nat → Int32 → xM Unit
  | 0, _, _, _ => xst
  | n + 1, l0, l1, l2 => f_St_copy_b2 (f_St_copy_h2 n) l0 l1 l2
def f_St_copy  (l0 : Nat) (l1 : Nat) : xM Unit :=
  f_St_copy_h2 1000 l0 l1 0
/-! ReadSide$Vector.sum()I -/
def f_Vec_sum  (l0 : Nat) : xM Int32 :=
  gA l0 8 0 fun v1 =>
  lI v1 0 fun v2 =>
  gA l0 8 0 fun v3 =>
  lI v3 1 fun v4 =>
  gA l0 8 0 fun v5 =>
  lI v5 2 fun v6 =>
  xr ((v2 + v4) + v6)
/-! ReadSide.snapshot(I)I -/
def f_RS_snapshot  (l0 : Nat) (l1 : Int32) : xM Int32 :=
  xv l0 0 <| xb (f_RS_replicaAt l0 l1) fun v1 =>
  gA v1 5 1 fun v2 =>
  gA v1 5 0 fun v3 =>
  xv v2 7 <| xb (f_St_copy v2 v3) fun v4 =>
  gA v1 5 0 fun v5 =>
  gA v5 7 3 fun v6 =>
  xv v6 8 <| xb (f_Vec_sum v6) fun v7 =>
  xr v7
/-! ReadSideLaw.snapshot(LReadSide;I[J)I -/
def f_law_snapshot  (l0 : Nat) (l1 : Int32) (l2 : Nat) : xM Int32 :=
  xv l0 0 <| xc (f_RS_snapshot l0 l1) (fun v1 =>
    sJ l2 0 v1.toInt64 <|
    xr 0
  )
  (fun a ci =>
  if ci = 10 then
    xr 1
  else
  xst)
/-! ReadSide.crash(I)I -/
def f_RS_crash  (l0 : Nat) (l1 : Int32) : xM Int32 :=
  xv l0 0 <| xb (f_RS_replicaAt l0 l1) fun v1 =>
  gA v1 5 0 fun v2 =>
  gA v2 7 3 fun v3 =>
  xv v3 8 <| xb (f_Vec_sum v3) fun v4 =>
  gA v1 5 1 fun v5 =>
  gA v5 7 3 fun v6 =>
  xv v6 8 <| xb (f_Vec_sum v6) fun v7 =>
  gA v1 5 0 fun v8 =>
  gA v1 5 1 fun v9 =>
  xv v8 7 <| xb (f_St_copy v8 v9) fun v10 =>
  xr (v4 - v7)
/-! ReadSideLaw.crash(LReadSide;I[J)I -/
def f_law_crash  (l0 : Nat) (l1 : Int32) (l2 : Nat) : xM Int32 :=
  xv l0 0 <| xc (f_RS_crash l0 l1) (fun v1 =>
    sJ l2 0 v1.toInt64 <|
    xr 0
  )
  (fun a ci =>
  if ci = 10 then
    xr 1
  else
  xst)
/-! ReadSide$Read.<init>(IILReadSide$Vector;IJII)V -/
def f_Read_init  (l0 : Nat) (l1 : Int32) (l2 : Int32) (l3 : Nat) (l4 : Int32) (l5 : Int64) (l7 : Int32) (l8 : Int32) : xM Unit :=
  pV l0 4 7 (.int 0) <|
  pV l0 4 8 (.int (-1)) <|
  pV l0 4 11 (.long (-1)) <|
  pV l0 4 0 (.int l1) <|
  pV l0 4 1 (.int l2) <|
  pV l0 4 2 (.ref l3) <|
  pV l0 4 3 (.int l4) <|
  pV l0 4 4 (.long l5) <|
  pV l0 4 5 (.int l7) <|
  pV l0 4 6 (.int l8) <|
  xr ()
/-! ReadSide.question(II)V -/
def f_RS_question_b55   : xM Unit :=
  xr ()
def f_RS_question_b51  (t0 : Int32) (t1 : Int32) : xM Unit :=
  xb (f_RS_index t1 t0) fun v1 =>
  f_RS_question_b55
def f_RS_question  (l0 : Nat) (l1 : Int32) (l2 : Int32) : xM Unit :=
  xb (f_RS_index l1 9) fun v1 =>
  if l1 = 8 then
    gI l0 0 0 fun v3 =>
    xb (f_RS_index (l2 + 1) (v3 + 1)) fun v4 =>
    f_RS_question_b55
  else
    xb (f_RS_isIn l1.toInt64 4 6) fun v2 =>
    if v2 = 0 then
      f_RS_question_b51 30 l2
    else
      f_RS_question_b51 10 l2
/-! ReadSide.vectorOf(J)LReadSide$Vector; -/
def f_RS_vectorOf_b103 (k46 : Nat → Int64 → Nat → Int32 → xM (Option Nat)) (l0 : Nat) (l3 : Int64) (l5 : Nat) (l6 : Int32) (t0 : Int32) (t1 : Int32) : xM (Option Nat) :=
  if t1 ≤ t0 then
    k46 l0 l3 l5 (l6 + 1)
  else
    xr none
def f_RS_vectorOf_b46 (k46 : Nat → Int64 → Nat → Int32 → xM (Option Nat)) (l0 : Nat) (l3 : Int64) (l5 : Nat) (l6 : Int32) : xM (Option Nat) :=
  if (3 : Int32) ≤ l6 then
    xr (some l5)
  else
    gA l5 8 0 fun v1 =>
    sI v1 l6 (((l3 >>> ((9 * l6).toInt64 &&& 63)) &&& 511).toInt32) <|
    gA l5 8 0 fun v2 =>
    lI v2 l6 fun v3 =>
    gI l0 0 0 fun v4 =>
    if v4 ≤ l6 then
      f_RS_vectorOf_b103 k46 l0 l3 l5 l6 0 v3
    else
      gA l0 0 1 fun v5 =>
      lA 5 v5 l6 fun v6 =>
      gI v6 3 1 fun v7 =>
      f_RS_vectorOf_b103 k46 l0 l3 l5 l6 v7 v3
def f_RS_vectorOf_h46  : Nat → Nat → Int64 → Nat → Int32 → xM (Option Nat)
  | 0, _, _, _, _ => xst
  | n + 1, l0, l3, l5, l6 => f_RS_vectorOf_b46 (f_RS_vectorOf_h46 n) l0 l3 l5 l6
def f_RS_vectorOf_b32   : xM (Option Nat) :=
  xr none
def f_RS_vectorOf  (l0 : Nat) (l1 : Int64) : xM (Option Nat) :=
  if (lg_cmp (l1 >>> ((20 : Int32).toInt64 &&& 63)) 0) < 0 then
    f_RS_vectorOf_b32
  else
    if (0 : Int32) ≤ (lg_cmp (l1 >>> ((20 : Int32).toInt64 &&& 63)) 134217728) then
      f_RS_vectorOf_b32
    else
      xb (f_Vec_check (l1 >>> ((20 : Int32).toInt64 &&& 63))) fun v1 =>
      if (lg_cmp (l1 &&& 1048575) v1) = 0 then
        nE 1 (.inr (8, z_Vec)) fun a2 =>
        xb (f_Vec_init a2) fun v3 =>
        f_RS_vectorOf_h46 1000 l0 (l1 >>> ((20 : Int32).toInt64 &&& 63)) a2 0
      else
        f_RS_vectorOf_b32
/-! ReadSide.ask(IJIIII)I -/
def f_RS_ask_b293  (l10 : Nat) : xM Int32 :=
  gI l10 4 0 fun v1 =>
  xr v1
def f_RS_ask_b220  (l0 : Nat) (l5 : Int32) (l10 : Nat) (l11 : Int32) (t0 : Int32) : xM Int32 :=
  xb (f_RS_need t0) fun v1 =>
  gA l0 0 4 fun v2 =>
  gI l0 0 5 fun v3 =>
  pV l0 0 5 (.int (v3 + 1)) <|
  sA 8 v2 v3 l10 <|
  if l11 = (-1) then
    if l5 = 0 then
      xv l0 0 <| xb (f_RS_fail l0 l10) fun v7 =>
      f_RS_ask_b293 l10
    else
      gA l0 0 6 fun v4 =>
      gI l0 0 7 fun v5 =>
      pV l0 0 7 (.int (v5 + 1)) <|
      gI l10 4 0 fun v6 =>
      sI v4 v5 v6 <|
      f_RS_ask_b293 l10
  else
    xv l0 0 <| xb (f_RS_answer l0 l10 l11) fun v8 =>
    f_RS_ask_b293 l10
def f_RS_ask_b215  (l0 : Nat) (l5 : Int32) (l10 : Nat) (l11 : Int32) : xM Int32 :=
  f_RS_ask_b220 l0 l5 l10 l11 1
def f_RS_ask_b195  (l0 : Nat) (l5 : Int32) (l10 : Nat) (l11 : Int32) : xM Int32 :=
  if l11 = (-1) then
    if l5 = 0 then
      f_RS_ask_b215 l0 l5 l10 l11
    else
      gI l0 0 7 fun v1 =>
      if (40 : Int32) ≤ v1 then
        f_RS_ask_b220 l0 l5 l10 l11 0
      else
        f_RS_ask_b215 l0 l5 l10 l11
  else
    f_RS_ask_b215 l0 l5 l10 l11
def f_RS_ask_b187 (k133 : Nat → Int32 → Nat → Nat → Int32 → Int32 → xM Int32) (l0 : Nat) (l5 : Int32) (l8 : Nat) (l10 : Nat) (l12 : Int32) (t0 : Int32) : xM Int32 :=
  k133 l0 l5 l8 l10 t0 (l12 + 1)
def f_RS_ask_b133 (k133 : Nat → Int32 → Nat → Nat → Int32 → Int32 → xM Int32) (l0 : Nat) (l5 : Int32) (l8 : Nat) (l10 : Nat) (l11 : Int32) (l12 : Int32) : xM Int32 :=
  gA l0 0 2 fun v1 =>
  aL v1 fun v2 =>
  if v2 ≤ l12 then
    f_RS_ask_b195 l0 l5 l10 l11
  else
    if l11 = (-1) then
      gI l8 6 1 fun v3 =>
      gA l0 0 2 fun v4 =>
      aL v4 fun v5 =>
      rI (v3 + l12) v5 fun v6 =>
      gA l0 0 2 fun v7 =>
      lA 6 v7 v6 fun v8 =>
      xv l0 0 <| xb (f_RS_may l0 v8 l10) fun v9 =>
      if v9 = 0 then
        f_RS_ask_b187 k133 l0 l5 l8 l10 l12 (-1)
      else
        f_RS_ask_b187 k133 l0 l5 l8 l10 l12 v6
    else
      f_RS_ask_b195 l0 l5 l10 l11
def f_RS_ask_h133  : Nat → Nat → Int32 → Nat → Nat → Int32 → Int32 → xM Int32
  | 0, _, _, _, _, _, _ => xst
  | n + 1, l0, l5, l8, l10, l11, l12 => f_RS_ask_b133 (f_RS_ask_h133 n) l0 l5 l8 l10 l11 l12
def f_RS_ask_b94  (l0 : Nat) (l1 : Int32) (l4 : Int32) (l5 : Int32) (l6 : Int32) (l7 : Int32) (l8 : Nat) (l9 : Option Nat) (t0 : Int32) : xM Int32 :=
  xb (f_RS_need t0) fun v1 =>
  nE 12 (.inr (4, z_Read)) fun a2 =>
  gI l0 0 5 fun v3 =>
  gJ l0 0 10 fun v4 =>
  xn l9 fun a5 =>
  xb (f_Read_init a2 v3 l1 a5 l4 (v4 + l5.toInt64) l6 l7) fun v6 =>
  f_RS_ask_h133 1000 l0 l5 l8 a2 (-1) 0
def f_RS_ask_b76  (l0 : Nat) (l1 : Int32) (l4 : Int32) (l5 : Int32) (l6 : Int32) (l7 : Int32) (l8 : Nat) (l9 : Option Nat) (t0 : Int32) : xM Int32 :=
  xb (f_RS_want t0) fun v1 =>
  gI l0 0 5 fun v2 =>
  if (500 : Int32) ≤ v2 then
    f_RS_ask_b94 l0 l1 l4 l5 l6 l7 l8 l9 0
  else
    f_RS_ask_b94 l0 l1 l4 l5 l6 l7 l8 l9 1
def f_RS_ask_b75  (l0 : Nat) (l1 : Int32) (l4 : Int32) (l5 : Int32) (l6 : Int32) (l7 : Int32) (l8 : Nat) (l9 : Option Nat) : xM Int32 :=
  f_RS_ask_b76 l0 l1 l4 l5 l6 l7 l8 l9 0
def f_RS_ask_b36  (l0 : Nat) (l1 : Int32) (l4 : Int32) (l5 : Int32) (l6 : Int32) (l7 : Int32) (l8 : Nat) (t0 : Option Nat) : xM Int32 :=
  xq t0 (
    f_RS_ask_b75 l0 l1 l4 l5 l6 l7 l8 t0
  ) fun a3 =>
    xb (f_RS_isIn l4.toInt64 (-1) 400) fun v1 =>
    if v1 = 0 then
      f_RS_ask_b75 l0 l1 l4 l5 l6 l7 l8 t0
    else
      xb (f_RS_isIn l5.toInt64 0 1000) fun v2 =>
      if v2 = 0 then
        f_RS_ask_b75 l0 l1 l4 l5 l6 l7 l8 t0
      else
        f_RS_ask_b76 l0 l1 l4 l5 l6 l7 l8 t0 1
def f_RS_ask  (l0 : Nat) (l1 : Int32) (l2 : Int64) (l4 : Int32) (l5 : Int32) (l6 : Int32) (l7 : Int32) : xM Int32 :=
  xv l0 0 <| xb (f_RS_sessionAt l0 l1) fun v1 =>
  xv l0 0 <| xb (f_RS_question l0 l6 l7) fun v2 =>
  if (lg_cmp l2 0) = 0 then
    nE 1 (.inr (8, z_Vec)) fun a4 =>
    xb (f_Vec_init a4) fun v5 =>
    f_RS_ask_b36 l0 l1 l4 l5 l6 l7 v1 (some a4)
  else
    xv l0 0 <| xb (f_RS_vectorOf l0 l2) fun v3 =>
    f_RS_ask_b36 l0 l1 l4 l5 l6 l7 v1 v3
/-! ReadSideLaw.ask(LReadSide;IJIIII[J)I -/
def f_law_ask  (l0 : Nat) (l1 : Int32) (l2 : Int64) (l4 : Int32) (l5 : Int32) (l6 : Int32) (l7 : Int32) (l8 : Nat) : xM Int32 :=
  xv l0 0 <| xc (f_RS_ask l0 l1 l2 l4 l5 l6 l7) (fun v1 =>
    sJ l8 0 v1.toInt64 <|
    xr 0
  )
  (fun a ci =>
  if ci = 10 then
    xr 1
  else
  if ci = 11 then
    xr 2
  else
  if ci = 12 then
    xr 3
  else
  xst)
/-! ReadSide$Read.told(I)J -/
def f_Read_told  (l0 : Nat) (l1 : Int32) : xM Int64 :=
  if l1 = 0 then
    gI l0 4 7 fun v1 =>
    xr v1.toInt64
  else
  if l1 = 1 then
    gI l0 4 8 fun v2 =>
    xr v2.toInt64
  else
  if l1 = 2 then
    gJ l0 4 9 fun v3 =>
    xr v3
  else
  if l1 = 3 then
    gJ l0 4 10 fun v4 =>
    xr v4
  else
  if l1 = 4 then
    gJ l0 4 11 fun v5 =>
    xr v5
  else
    gI l0 4 1 fun v6 =>
    xr v6.toInt64
/-! ReadSide.read(II)J -/
def f_RS_read  (l0 : Nat) (l1 : Int32) (l2 : Int32) : xM Int64 :=
  gA l0 0 4 fun v1 =>
  gI l0 0 5 fun v2 =>
  xb (f_RS_index l1 v2) fun v3 =>
  lA 8 v1 v3 fun v4 =>
  xb (f_RS_index l2 6) fun v5 =>
  xv v4 4 <| xb (f_Read_told v4 v5) fun v6 =>
  xr v6
/-! ReadSideLaw.read(LReadSide;II[J)I -/
def f_law_read  (l0 : Nat) (l1 : Int32) (l2 : Int32) (l3 : Nat) : xM Int32 :=
  xv l0 0 <| xc (f_RS_read l0 l1 l2) (fun v1 =>
    sJ l3 0 v1 <|
    xr 0
  )
  (fun a ci =>
  if ci = 10 then
    xr 1
  else
  xst)
/-! ReadSide.value(III)J -/
def f_RS_value  (l0 : Nat) (l1 : Int32) (l2 : Int32) (l3 : Int32) : xM Int64 :=
  xv l0 0 <| xb (f_RS_replicaAt l0 l1) fun v1 =>
  xv l0 0 <| xb (f_RS_question l0 l2 l3) fun v2 =>
  gA v1 5 0 fun v3 =>
  gI l0 0 0 fun v4 =>
  xv v3 7 <| xb (f_St_answer v3 l2 l3 v4) fun v5 =>
  xr v5
/-! ReadSideLaw.value(LReadSide;III[J)I -/
def f_law_value  (l0 : Nat) (l1 : Int32) (l2 : Int32) (l3 : Int32) (l4 : Nat) : xM Int32 :=
  xv l0 0 <| xc (f_RS_value l0 l1 l2 l3) (fun v1 =>
    sJ l4 0 v1 <|
    xr 0
  )
  (fun a ci =>
  if ci = 10 then
    xr 1
  else
  xst)
/-! ReadSide.at(II)I -/
def f_RS_at  (l0 : Nat) (l1 : Int32) (l2 : Int32) : xM Int32 :=
  xv l0 0 <| xb (f_RS_replicaAt l0 l1) fun v1 =>
  gA v1 5 0 fun v2 =>
  gA v2 7 3 fun v3 =>
  gA v3 8 0 fun v4 =>
  gI l0 0 0 fun v5 =>
  xb (f_RS_index l2 v5) fun v6 =>
  lI v4 v6 fun v7 =>
  xr v7
/-! ReadSideLaw.at(LReadSide;II[J)I -/
def f_law_at  (l0 : Nat) (l1 : Int32) (l2 : Int32) (l3 : Nat) : xM Int32 :=
  xv l0 0 <| xc (f_RS_at l0 l1 l2) (fun v1 =>
    sJ l3 0 v1.toInt64 <|
    xr 0
  )
  (fun a ci =>
  if ci = 10 then
    xr 1
  else
  xst)
/-! ReadSide.kept(II)I -/
def f_RS_kept  (l0 : Nat) (l1 : Int32) (l2 : Int32) : xM Int32 :=
  xv l0 0 <| xb (f_RS_replicaAt l0 l1) fun v1 =>
  gA v1 5 1 fun v2 =>
  gA v2 7 3 fun v3 =>
  gA v3 8 0 fun v4 =>
  gI l0 0 0 fun v5 =>
  xb (f_RS_index l2 v5) fun v6 =>
  lI v4 v6 fun v7 =>
  xr v7
/-! ReadSideLaw.kept(LReadSide;II[J)I -/
def f_law_kept  (l0 : Nat) (l1 : Int32) (l2 : Int32) (l3 : Nat) : xM Int32 :=
  xv l0 0 <| xc (f_RS_kept l0 l1 l2) (fun v1 =>
    sJ l3 0 v1.toInt64 <|
    xr 0
  )
  (fun a ci =>
  if ci = 10 then
    xr 1
  else
  xst)
/-! ReadSide.log(II)I -/
def f_RS_log_b33  (t0 : Int32) : xM Int32 :=
  xr t0
def f_RS_log  (l0 : Nat) (l1 : Int32) (l2 : Int32) : xM Int32 :=
  gA l0 0 1 fun v1 =>
  gI l0 0 0 fun v2 =>
  xb (f_RS_index l1 v2) fun v3 =>
  lA 5 v1 v3 fun v4 =>
  xb (f_RS_index l2 2) fun v5 =>
  if v5 = 0 then
    gI v4 3 1 fun v7 =>
    f_RS_log_b33 v7
  else
    gI v4 3 2 fun v6 =>
    f_RS_log_b33 v6
/-! ReadSideLaw.log(LReadSide;II[J)I -/
def f_law_log  (l0 : Nat) (l1 : Int32) (l2 : Int32) (l3 : Nat) : xM Int32 :=
  xv l0 0 <| xc (f_RS_log l0 l1 l2) (fun v1 =>
    sJ l3 0 v1.toInt64 <|
    xr 0
  )
  (fun a ci =>
  if ci = 10 then
    xr 1
  else
  xst)
/-! ReadSide$Command.told(I)I -/
def f_Cmd_told  (l0 : Nat) (l1 : Int32) : xM Int32 :=
  if l1 = 0 then
    gI l0 1 0 fun v1 =>
    xr v1
  else
  if l1 = 1 then
    gI l0 1 1 fun v2 =>
    xr v2
  else
  if l1 = 2 then
    gI l0 1 2 fun v3 =>
    xr v3
  else
  if l1 = 3 then
    gI l0 1 3 fun v4 =>
    xr v4
  else
    gA l0 1 4 fun v5 =>
    gA v5 8 0 fun v6 =>
    lI v6 (l1 - 4) fun v7 =>
    xr v7
/-! ReadSide.logged(III)I -/
def f_RS_logged  (l0 : Nat) (l1 : Int32) (l2 : Int32) (l3 : Int32) : xM Int32 :=
  gA l0 0 1 fun v1 =>
  gI l0 0 0 fun v2 =>
  xb (f_RS_index l1 v2) fun v3 =>
  lA 5 v1 v3 fun v4 =>
  gI v4 3 2 fun v5 =>
  gI v4 3 1 fun v6 =>
  gI v4 3 2 fun v7 =>
  xb (f_RS_index ((l2 - 1) - v5) (v6 - v7)) fun v8 =>
  xb (f_RS_index l3 7) fun v9 =>
  xv v4 3 <| xb (f_Log_at v4 l2) fun v10 =>
  xv v10 1 <| xb (f_Cmd_told v10 l3) fun v11 =>
  xr v11
/-! ReadSideLaw.logged(LReadSide;III[J)I -/
def f_law_logged  (l0 : Nat) (l1 : Int32) (l2 : Int32) (l3 : Int32) (l4 : Nat) : xM Int32 :=
  xv l0 0 <| xc (f_RS_logged l0 l1 l2 l3) (fun v1 =>
    sJ l4 0 v1.toInt64 <|
    xr 0
  )
  (fun a ci =>
  if ci = 10 then
    xr 1
  else
  xst)
/-! ReadSide.session(III)I -/
def f_RS_session_b28  (l0 : Nat) (l3 : Int32) (t0 : Nat) : xM Int32 :=
  gA t0 8 0 fun v1 =>
  gI l0 0 0 fun v2 =>
  xb (f_RS_index l3 v2) fun v3 =>
  lI v1 v3 fun v4 =>
  xr v4
def f_RS_session  (l0 : Nat) (l1 : Int32) (l2 : Int32) (l3 : Int32) : xM Int32 :=
  xv l0 0 <| xb (f_RS_sessionAt l0 l1) fun v1 =>
  xb (f_RS_index l2 2) fun v2 =>
  if v2 = 0 then
    gA v1 6 2 fun v4 =>
    f_RS_session_b28 l0 l3 v4
  else
    gA v1 6 3 fun v3 =>
    f_RS_session_b28 l0 l3 v3
/-! ReadSideLaw.session(LReadSide;III[J)I -/
def f_law_session  (l0 : Nat) (l1 : Int32) (l2 : Int32) (l3 : Int32) (l4 : Nat) : xM Int32 :=
  xv l0 0 <| xc (f_RS_session l0 l1 l2 l3) (fun v1 =>
    sJ l4 0 v1.toInt64 <|
    xr 0
  )
  (fun a ci =>
  if ci = 10 then
    xr 1
  else
  xst)
/-! ReadSide.told(JI)I -/
def f_RS_told_b26  (l3 : Int32) (l4 : Option Nat) (t0 : Int32) : xM Int32 :=
  xb (f_RS_want t0) fun v1 =>
  xn l4 fun a2 =>
  gA a2 8 0 fun v3 =>
  lI v3 l3 fun v4 =>
  xr v4
def f_RS_told  (l0 : Nat) (l1 : Int64) (l3 : Int32) : xM Int32 :=
  gI l0 0 0 fun v1 =>
  xb (f_RS_index l3 v1) fun v2 =>
  xv l0 0 <| xb (f_RS_vectorOf l0 l1) fun v3 =>
  xq v3 (
    f_RS_told_b26 l3 v3 0
  ) fun a4 =>
    f_RS_told_b26 l3 v3 1
/-! ReadSideLaw.told(LReadSide;JI[J)I -/
def f_law_told  (l0 : Nat) (l1 : Int64) (l3 : Int32) (l4 : Nat) : xM Int32 :=
  xv l0 0 <| xc (f_RS_told l0 l1 l3) (fun v1 =>
    sJ l4 0 v1.toInt64 <|
    xr 0
  )
  (fun a ci =>
  if ci = 10 then
    xr 1
  else
  if ci = 11 then
    xr 2
  else
  xst)
/-! ReadSide.count(I)I -/
def f_RS_count_b58  (t0 : Int32) : xM Int32 :=
  xr t0
def f_RS_count  (l0 : Nat) (l1 : Int32) : xM Int32 :=
  xb (f_RS_index l1 5) fun v1 =>
  if l1 = 0 then
    gI l0 0 5 fun v6 =>
    f_RS_count_b58 v6
  else
    if l1 = 1 then
      gI l0 0 7 fun v5 =>
      f_RS_count_b58 v5
    else
      if l1 = 2 then
        gI l0 0 8 fun v4 =>
        f_RS_count_b58 v4
      else
        if l1 = 3 then
          gI l0 0 9 fun v3 =>
          f_RS_count_b58 v3
        else
          gJ l0 0 10 fun v2 =>
          f_RS_count_b58 v2.toInt32
/-! ReadSideLaw.count(LReadSide;I[J)I -/
def f_law_count  (l0 : Nat) (l1 : Int32) (l2 : Nat) : xM Int32 :=
  xv l0 0 <| xc (f_RS_count l0 l1) (fun v1 =>
    sJ l2 0 v1.toInt64 <|
    xr 0
  )
  (fun a ci =>
  if ci = 10 then
    xr 1
  else
  xst)
/-! ReadSideModel.<init>(II)V -/
def f_Mdl_init_b356 (k356 : Nat → Int32 → xM Unit) (l0 : Nat) (l3 : Int32) : xM Unit :=
  if (240 : Int32) ≤ l3 then
    xr ()
  else
    gA l0 9 14 fun v1 =>
    sI v1 l3 1 <|
    k356 l0 (l3 + 1)
def f_Mdl_init_h356  : Nat → Nat → Int32 → xM Unit
  | 0, _, _ => xst
  | n + 1, l0, l3 => f_Mdl_init_b356 (f_Mdl_init_h356 n) l0 l3
def f_Mdl_init_b333 (k333 : Nat → Int32 → xM Unit) (l0 : Nat) (l3 : Int32) : xM Unit :=
  gI l0 9 1 fun v1 =>
  if v1 ≤ l3 then
    f_Mdl_init_h356 1000 l0 0
  else
    gA l0 9 21 fun v2 =>
    sZ v2 l3 1 <|
    k333 l0 (l3 + 1)
def f_Mdl_init_h333  : Nat → Nat → Int32 → xM Unit
  | 0, _, _ => xst
  | n + 1, l0, l3 => f_Mdl_init_b333 (f_Mdl_init_h333 n) l0 l3
def f_Mdl_init_b328  (l0 : Nat) (t0 : Int32) (t1 : Nat) : xM Unit :=
  pV t1 9 1 (.int t0) <|
  f_Mdl_init_h333 1000 l0 0
def f_Mdl_init_b327  (l0 : Nat) (t0 : Nat) : xM Unit :=
  f_Mdl_init_b328 l0 2 t0
def f_Mdl_init_b309  (l0 : Nat) (l2 : Int32) (t0 : Int32) (t1 : Nat) : xM Unit :=
  pV t1 9 0 (.int t0) <|
  if l2 < 1 then
    f_Mdl_init_b327 l0 l0
  else
    if (4 : Int32) < l2 then
      f_Mdl_init_b327 l0 l0
    else
      f_Mdl_init_b328 l0 l2 l0
def f_Mdl_init_b308  (l0 : Nat) (l2 : Int32) (t0 : Nat) : xM Unit :=
  f_Mdl_init_b309 l0 l2 2 t0
def f_Mdl_init  (l0 : Nat) (l1 : Int32) (l2 : Int32) : xM Unit :=
  nAI 3 fun a1 =>
  pV l0 9 4 (.ref a1) <|
  nAI 3 fun a2 =>
  pV l0 9 5 (.ref a2) <|
  nAI 1203 fun a3 =>
  pV l0 9 6 (.ref a3) <|
  nAI 1203 fun a4 =>
  pV l0 9 7 (.ref a4) <|
  nAI 1203 fun a5 =>
  pV l0 9 8 (.ref a5) <|
  nAI 1203 fun a6 =>
  pV l0 9 9 (.ref a6) <|
  nAI 3609 fun a7 =>
  pV l0 9 10 (.ref a7) <|
  nAI 240 fun a8 =>
  pV l0 9 11 (.ref a8) <|
  nAI 240 fun a9 =>
  pV l0 9 12 (.ref a9) <|
  nAI 240 fun a10 =>
  pV l0 9 13 (.ref a10) <|
  nAI 240 fun a11 =>
  pV l0 9 14 (.ref a11) <|
  nAI 2400 fun a12 =>
  pV l0 9 15 (.ref a12) <|
  nAJ 80 fun a13 =>
  pV l0 9 16 (.ref a13) <|
  nAI 80 fun a14 =>
  pV l0 9 17 (.ref a14) <|
  nAI 24 fun a15 =>
  pV l0 9 18 (.ref a15) <|
  nAI 4 fun a16 =>
  pV l0 9 19 (.ref a16) <|
  nAI 4 fun a17 =>
  pV l0 9 20 (.ref a17) <|
  nAZ 4 fun a18 =>
  pV l0 9 21 (.ref a18) <|
  nAI 8 fun a19 =>
  pV l0 9 22 (.ref a19) <|
  nAI 8 fun a20 =>
  pV l0 9 23 (.ref a20) <|
  nAI 24 fun a21 =>
  pV l0 9 24 (.ref a21) <|
  nAI 24 fun a22 =>
  pV l0 9 25 (.ref a22) <|
  nAI 500 fun a23 =>
  pV l0 9 27 (.ref a23) <|
  nAI 500 fun a24 =>
  pV l0 9 28 (.ref a24) <|
  nAI 1500 fun a25 =>
  pV l0 9 29 (.ref a25) <|
  nAI 500 fun a26 =>
  pV l0 9 30 (.ref a26) <|
  nAI 500 fun a27 =>
  pV l0 9 31 (.ref a27) <|
  nAI 500 fun a28 =>
  pV l0 9 32 (.ref a28) <|
  nAI 500 fun a29 =>
  pV l0 9 33 (.ref a29) <|
  nAI 500 fun a30 =>
  pV l0 9 34 (.ref a30) <|
  nAI 500 fun a31 =>
  pV l0 9 35 (.ref a31) <|
  nAJ 500 fun a32 =>
  pV l0 9 36 (.ref a32) <|
  nAJ 500 fun a33 =>
  pV l0 9 37 (.ref a33) <|
  nAI 500 fun a34 =>
  pV l0 9 38 (.ref a34) <|
  if l1 < 1 then
    f_Mdl_init_b308 l0 l2 l0
  else
    if (3 : Int32) < l1 then
      f_Mdl_init_b308 l0 l2 l0
    else
      f_Mdl_init_b309 l0 l2 l1 l0
/-! ReadSideModel.thrown()I -/
def f_Mdl_thrown  (l0 : Nat) : xM Int32 :=
  gI l0 9 2 fun v1 =>
  xr v1
/-! ReadSideModel.covers([III)Z -/
def f_Mdl_covers_b42 (k6 : Nat → Nat → Int32 → Int32 → Int32 → Int32 → xM Int32) (l0 : Nat) (l1 : Nat) (l2 : Int32) (l3 : Int32) (l5 : Int32) (t0 : Int32) (t1 : Int32) : xM Int32 :=
  k6 l0 l1 l2 l3 (t1 &&& t0) (l5 + 1)
def f_Mdl_covers_b6 (k6 : Nat → Nat → Int32 → Int32 → Int32 → Int32 → xM Int32) (l0 : Nat) (l1 : Nat) (l2 : Int32) (l3 : Int32) (l4 : Int32) (l5 : Int32) : xM Int32 :=
  gI l0 9 0 fun v1 =>
  if v1 ≤ l5 then
    if l4 = 0 ∨ l4 = 1 then xr l4 else xst
  else
    gA l0 9 18 fun v2 =>
    lI v2 ((3 * l3) + l5) fun v3 =>
    lI l1 (l2 + l5) fun v4 =>
    if v3 < v4 then
      f_Mdl_covers_b42 k6 l0 l1 l2 l3 l5 0 l4
    else
      f_Mdl_covers_b42 k6 l0 l1 l2 l3 l5 1 l4
def f_Mdl_covers_h6  : Nat → Nat → Nat → Int32 → Int32 → Int32 → Int32 → xM Int32
  | 0, _, _, _, _, _, _ => xst
  | n + 1, l0, l1, l2, l3, l4, l5 => f_Mdl_covers_b6 (f_Mdl_covers_h6 n) l0 l1 l2 l3 l4 l5
def f_Mdl_covers  (l0 : Nat) (l1 : Nat) (l2 : Int32) (l3 : Int32) : xM Int32 :=
  f_Mdl_covers_h6 1000 l0 l1 l2 l3 1 0
/-! ReadSideModel.may(II)Z -/
def f_Mdl_may_b155  (l4 : Int32) : xM Int32 :=
  if l4 = 0 ∨ l4 = 1 then xr l4 else xst
def f_Mdl_may_b146 (k93 : Nat → Int32 → Int32 → Int32 → Int32 → xM Int32) (l0 : Nat) (l1 : Int32) (l2 : Int32) (l5 : Int32) (t0 : Int32) (t1 : Int32) : xM Int32 :=
  k93 l0 l1 l2 (t1 &&& t0) (l5 + 1)
def f_Mdl_may_b93 (k93 : Nat → Int32 → Int32 → Int32 → Int32 → xM Int32) (l0 : Nat) (l1 : Int32) (l2 : Int32) (l4 : Int32) (l5 : Int32) : xM Int32 :=
  gI l0 9 0 fun v1 =>
  if v1 ≤ l5 then
    f_Mdl_may_b155 l4
  else
    gA l0 9 30 fun v2 =>
    lI v2 l2 fun v3 =>
    if v3 < 0 then
      f_Mdl_may_b155 l4
    else
      gA l0 9 4 fun v4 =>
      lI v4 l5 fun v5 =>
      gA l0 9 18 fun v6 =>
      lI v6 ((3 * l1) + l5) fun v7 =>
      gA l0 9 30 fun v8 =>
      lI v8 l2 fun v9 =>
      if v9 < (v5 - v7) then
        f_Mdl_may_b146 k93 l0 l1 l2 l5 0 l4
      else
        f_Mdl_may_b146 k93 l0 l1 l2 l5 1 l4
def f_Mdl_may_h93  : Nat → Nat → Int32 → Int32 → Int32 → Int32 → xM Int32
  | 0, _, _, _, _, _ => xst
  | n + 1, l0, l1, l2, l4, l5 => f_Mdl_may_b93 (f_Mdl_may_h93 n) l0 l1 l2 l4 l5
def f_Mdl_may_b88  (l0 : Nat) (l1 : Int32) (l2 : Int32) (t0 : Int32) : xM Int32 :=
  f_Mdl_may_h93 1000 l0 l1 l2 t0 0
def f_Mdl_may_b87  (l0 : Nat) (l1 : Int32) (l2 : Int32) : xM Int32 :=
  f_Mdl_may_b88 l0 l1 l2 0
def f_Mdl_may_b83  (l0 : Nat) (l1 : Int32) (l2 : Int32) : xM Int32 :=
  f_Mdl_may_b88 l0 l1 l2 1
def f_Mdl_may_b57  (l0 : Nat) (l1 : Int32) (l2 : Int32) (l3 : Int32) : xM Int32 :=
  gA l0 9 22 fun v1 =>
  lI v1 l3 fun v2 =>
  if (v2 &&& 2) = 0 then
    f_Mdl_may_b83 l0 l1 l2
  else
    gA l0 9 25 fun v3 =>
    xv l0 9 <| xb (f_Mdl_covers l0 v3 (3 * l3) l1) fun v4 =>
    if v4 = 0 then
      f_Mdl_may_b87 l0 l1 l2
    else
      f_Mdl_may_b83 l0 l1 l2
def f_Mdl_may  (l0 : Nat) (l1 : Int32) (l2 : Int32) : xM Int32 :=
  gA l0 9 28 fun v1 =>
  lI v1 l2 fun v2 =>
  gA l0 9 21 fun v3 =>
  lZ v3 l1 fun v4 =>
  if v4 = 0 then
    f_Mdl_may_b87 l0 l1 l2
  else
    gA l0 9 29 fun v5 =>
    xv l0 9 <| xb (f_Mdl_covers l0 v5 (3 * l2) l1) fun v6 =>
    if v6 = 0 then
      f_Mdl_may_b87 l0 l1 l2
    else
      gA l0 9 22 fun v7 =>
      lI v7 v2 fun v8 =>
      if (v8 &&& 1) = 0 then
        f_Mdl_may_b57 l0 l1 l2 v2
      else
        gA l0 9 24 fun v9 =>
        xv l0 9 <| xb (f_Mdl_covers l0 v9 (3 * v2) l1) fun v10 =>
        if v10 = 0 then
          f_Mdl_may_b87 l0 l1 l2
        else
          f_Mdl_may_b57 l0 l1 l2 v2
/-! ReadSideModel.greater(II)I -/
def f_Mdl_greater_b10  (t0 : Int32) : xM Int32 :=
  xr t0
def f_Mdl_greater  (l0 : Int32) (l1 : Int32) : xM Int32 :=
  if l0 ≤ l1 then
    f_Mdl_greater_b10 l1
  else
    f_Mdl_greater_b10 l0
/-! ReadSideModel.ranked(II)I -/
def f_Mdl_ranked_b87 (k5 : Nat → Int32 → Int32 → Int32 → Int32 → xM Int32) (l0 : Nat) (l1 : Int32) (l2 : Int32) (l3 : Int32) (l4 : Int32) : xM Int32 :=
  k5 l0 l1 l2 l3 (l4 + 1)
def f_Mdl_ranked_b72 (k5 : Nat → Int32 → Int32 → Int32 → Int32 → xM Int32) (k18 : Nat → Int32 → Int32 → Int32 → Int32 → Int32 → Int32 → xM Int32) (l0 : Nat) (l1 : Int32) (l2 : Int32) (l3 : Int32) (l4 : Int32) (l5 : Int32) (l6 : Int32) : xM Int32 :=
  k18 l0 l1 l2 l3 l4 l5 (l6 + 1)
def f_Mdl_ranked_b69 (k5 : Nat → Int32 → Int32 → Int32 → Int32 → xM Int32) (k18 : Nat → Int32 → Int32 → Int32 → Int32 → Int32 → Int32 → xM Int32) (l0 : Nat) (l1 : Int32) (l2 : Int32) (l3 : Int32) (l4 : Int32) (l5 : Int32) (l6 : Int32) : xM Int32 :=
  f_Mdl_ranked_b72 k5 k18 l0 l1 l2 l3 l4 (l5 + 1) l6
def f_Mdl_ranked_b18 (k5 : Nat → Int32 → Int32 → Int32 → Int32 → xM Int32) (k18 : Nat → Int32 → Int32 → Int32 → Int32 → Int32 → Int32 → xM Int32) (l0 : Nat) (l1 : Int32) (l2 : Int32) (l3 : Int32) (l4 : Int32) (l5 : Int32) (l6 : Int32) : xM Int32 :=
  if (30 : Int32) ≤ l6 then
    if l5 = l2 then
      f_Mdl_ranked_b87 k5 l0 l1 l2 l4 l4
    else
      f_Mdl_ranked_b87 k5 l0 l1 l2 l3 l4
  else
    gA l0 9 13 fun v1 =>
    lI v1 ((30 * l1) + l6) fun v2 =>
    gA l0 9 13 fun v3 =>
    lI v3 ((30 * l1) + l4) fun v4 =>
    if (0 : Int32) < (v2 - v4) then
      f_Mdl_ranked_b69 k5 k18 l0 l1 l2 l3 l4 l5 l6
    else
      if (v2 - v4) = 0 then
        if l4 ≤ l6 then
          f_Mdl_ranked_b72 k5 k18 l0 l1 l2 l3 l4 l5 l6
        else
          f_Mdl_ranked_b69 k5 k18 l0 l1 l2 l3 l4 l5 l6
      else
        f_Mdl_ranked_b72 k5 k18 l0 l1 l2 l3 l4 l5 l6
def f_Mdl_ranked_h18 (k5 : Nat → Int32 → Int32 → Int32 → Int32 → xM Int32) : Nat → Nat → Int32 → Int32 → Int32 → Int32 → Int32 → Int32 → xM Int32
  | 0, _, _, _, _, _, _, _ => xst
  | n + 1, l0, l1, l2, l3, l4, l5, l6 => f_Mdl_ranked_b18 k5 (f_Mdl_ranked_h18 k5 n) l0 l1 l2 l3 l4 l5 l6
def f_Mdl_ranked_b5 (k5 : Nat → Int32 → Int32 → Int32 → Int32 → xM Int32) (l0 : Nat) (l1 : Int32) (l2 : Int32) (l3 : Int32) (l4 : Int32) : xM Int32 :=
  if (30 : Int32) ≤ l4 then
    xr l3
  else
    f_Mdl_ranked_h18 k5 1000 l0 l1 l2 l3 l4 0 0
def f_Mdl_ranked_h5  : Nat → Nat → Int32 → Int32 → Int32 → Int32 → xM Int32
  | 0, _, _, _, _, _ => xst
  | n + 1, l0, l1, l2, l3, l4 => f_Mdl_ranked_b5 (f_Mdl_ranked_h5 n) l0 l1 l2 l3 l4
def f_Mdl_ranked  (l0 : Nat) (l1 : Int32) (l2 : Int32) : xM Int32 :=
  f_Mdl_ranked_h5 1000 l0 l1 l2 0 0
/-! ReadSideModel.tell(III)J -/
def f_Mdl_tell_b224 (k170 : Nat → Int32 → Int32 → Int64 → Int32 → xM Int64) (l0 : Nat) (l1 : Int32) (l3 : Int32) (l6 : Int64) (l8 : Int32) : xM Int64 :=
  k170 l0 l1 l3 l6 (l8 + 1)
def f_Mdl_tell_b192 (k170 : Nat → Int32 → Int32 → Int64 → Int32 → xM Int64) (l0 : Nat) (l1 : Int32) (l3 : Int32) (l6 : Int64) (l8 : Int32) : xM Int64 :=
  gA l0 9 11 fun v1 =>
  lI v1 ((30 * l1) + l8) fun v2 =>
  gA l0 9 14 fun v3 =>
  lI v3 ((30 * l1) + l8) fun v4 =>
  f_Mdl_tell_b224 k170 l0 l1 l3 (l6 + (v2.toInt64 * v4.toInt64)) l8
def f_Mdl_tell_b170 (k170 : Nat → Int32 → Int32 → Int64 → Int32 → xM Int64) (l0 : Nat) (l1 : Int32) (l3 : Int32) (l6 : Int64) (l8 : Int32) : xM Int64 :=
  if (30 : Int32) ≤ l8 then
    xr l6
  else
    if l3 < 0 then
      f_Mdl_tell_b192 k170 l0 l1 l3 l6 l8
    else
      gI l0 9 0 fun v1 =>
      rI l8 v1 fun v2 =>
      if v2 = l3 then
        f_Mdl_tell_b192 k170 l0 l1 l3 l6 l8
      else
        f_Mdl_tell_b224 k170 l0 l1 l3 l6 l8
def f_Mdl_tell_h170  : Nat → Nat → Int32 → Int32 → Int64 → Int32 → xM Int64
  | 0, _, _, _, _, _ => xst
  | n + 1, l0, l1, l3, l6, l8 => f_Mdl_tell_b170 (f_Mdl_tell_h170 n) l0 l1 l3 l6 l8
def f_Mdl_tell_b115 (k115 : Nat → Int32 → Int64 → Int32 → xM Int64) (l0 : Nat) (l5 : Int32) (l6 : Int64) (l8 : Int32) : xM Int64 :=
  if (30 : Int32) ≤ l8 then
    xr l6
  else
    gA l0 9 15 fun v1 =>
    lI v1 ((30 * l5) + l8) fun v2 =>
    k115 l0 l5 (l6 + v2.toInt64) (l8 + 1)
def f_Mdl_tell_h115  : Nat → Nat → Int32 → Int64 → Int32 → xM Int64
  | 0, _, _, _, _ => xst
  | n + 1, l0, l5, l6, l8 => f_Mdl_tell_b115 (f_Mdl_tell_h115 n) l0 l5 l6 l8
def f_Mdl_tell  (l0 : Nat) (l1 : Int32) (l2 : Int32) (l3 : Int32) : xM Int64 :=
  if l2 = 0 then
    gA l0 9 11 fun v1 =>
    lI v1 ((30 * l1) + l3) fun v2 =>
    xr v2.toInt64
  else
  if l2 = 1 then
    gA l0 9 12 fun v3 =>
    lI v3 ((30 * l1) + l3) fun v4 =>
    xr v4.toInt64
  else
  if l2 = 2 then
    gA l0 9 13 fun v5 =>
    lI v5 ((30 * l1) + l3) fun v6 =>
    xr v6.toInt64
  else
  if l2 = 3 then
    gA l0 9 14 fun v7 =>
    lI v7 ((30 * l1) + l3) fun v8 =>
    xr v8.toInt64
  else
  if l2 = 4 then
    gA l0 9 16 fun v9 =>
    lJ v9 ((10 * l1) + l3) fun v10 =>
    xr v10
  else
  if l2 = 5 then
    f_Mdl_tell_h115 1000 l0 ((10 * l1) + l3) 0 0
  else
  if l2 = 6 then
    gA l0 9 17 fun v11 =>
    lI v11 ((10 * l1) + l3) fun v12 =>
    xr v12.toInt64
  else
  if l2 = 7 then
    xv l0 9 <| xb (f_Mdl_ranked l0 l1 l3) fun v13 =>
    xr v13.toInt64
  else
    f_Mdl_tell_h170 1000 l0 l1 l3 0 0
/-! ReadSideModel.check(J)J -/
def f_Mdl_check  (l0 : Int64) : xM Int64 :=
  xr (((l0 * (-7046029254386353131)).toUInt64 >>> ((44 : Int32).toInt64.toUInt64 &&& Int64.toUInt64 63)).toInt64)
/-! ReadSideModel.tokenOf(III)J -/
def f_Mdl_tokenOf  (l0 : Int32) (l1 : Int32) (l2 : Int32) : xM Int64 :=
  xb (f_Mdl_check ((l0.toInt64 + (512 * l1.toInt64)) + (262144 * l2.toInt64))) fun v1 =>
  xr ((((l0.toInt64 + (512 * l1.toInt64)) + (262144 * l2.toInt64)) * 1048576) + v1)
/-! ReadSideModel.answer(II)V -/
def f_Mdl_answer_b86 (k86 : Nat → Int32 → Int32 → Int32 → xM Unit) (l0 : Nat) (l1 : Int32) (l2 : Int32) (l3 : Int32) : xM Unit :=
  gI l0 9 0 fun v1 =>
  if v1 ≤ l3 then
    xr ()
  else
    gA l0 9 25 fun v2 =>
    gA l0 9 28 fun v3 =>
    lI v3 l2 fun v4 =>
    gA l0 9 25 fun v5 =>
    gA l0 9 28 fun v6 =>
    lI v6 l2 fun v7 =>
    lI v5 ((3 * v7) + l3) fun v8 =>
    gA l0 9 18 fun v9 =>
    lI v9 ((3 * l1) + l3) fun v10 =>
    xb (f_Mdl_greater v8 v10) fun v11 =>
    sI v2 ((3 * v4) + l3) v11 <|
    k86 l0 l1 l2 (l3 + 1)
def f_Mdl_answer_h86  : Nat → Nat → Int32 → Int32 → Int32 → xM Unit
  | 0, _, _, _, _ => xst
  | n + 1, l0, l1, l2, l3 => f_Mdl_answer_b86 (f_Mdl_answer_h86 n) l0 l1 l2 l3
def f_Mdl_answer  (l0 : Nat) (l1 : Int32) (l2 : Int32) : xM Unit :=
  gA l0 9 27 fun v1 =>
  sI v1 l2 1 <|
  gA l0 9 35 fun v2 =>
  sI v2 l2 l1 <|
  gA l0 9 36 fun v3 =>
  gA l0 9 33 fun v4 =>
  lI v4 l2 fun v5 =>
  gA l0 9 34 fun v6 =>
  lI v6 l2 fun v7 =>
  xv l0 9 <| xb (f_Mdl_tell l0 l1 v5 v7) fun v8 =>
  sJ v3 l2 v8 <|
  gA l0 9 37 fun v9 =>
  gA l0 9 18 fun v10 =>
  lI v10 (3 * l1) fun v11 =>
  gA l0 9 18 fun v12 =>
  lI v12 ((3 * l1) + 1) fun v13 =>
  gA l0 9 18 fun v14 =>
  lI v14 ((3 * l1) + 2) fun v15 =>
  xb (f_Mdl_tokenOf v11 v13 v15) fun v16 =>
  sJ v9 l2 v16 <|
  gA l0 9 38 fun v17 =>
  gI l0 9 3 fun v18 =>
  sI v17 l2 v18 <|
  f_Mdl_answer_h86 1000 l0 l1 l2 0
/-! ReadSideModel.look(I)V -/
def f_Mdl_look_b34 (k2 : Nat → Int32 → Int32 → xM Unit) (l0 : Nat) (l1 : Int32) (l2 : Int32) : xM Unit :=
  k2 l0 l1 (l2 + 1)
def f_Mdl_look_b2 (k2 : Nat → Int32 → Int32 → xM Unit) (l0 : Nat) (l1 : Int32) (l2 : Int32) : xM Unit :=
  gI l0 9 26 fun v1 =>
  if v1 ≤ l2 then
    xr ()
  else
    gA l0 9 27 fun v2 =>
    lI v2 l2 fun v3 =>
    if v3 = 0 then
      xv l0 9 <| xb (f_Mdl_may l0 l1 l2) fun v4 =>
      if v4 = 0 then
        f_Mdl_look_b34 k2 l0 l1 l2
      else
        xv l0 9 <| xb (f_Mdl_answer l0 l1 l2) fun v5 =>
        f_Mdl_look_b34 k2 l0 l1 l2
    else
      f_Mdl_look_b34 k2 l0 l1 l2
def f_Mdl_look_h2  : Nat → Nat → Int32 → Int32 → xM Unit
  | 0, _, _, _ => xst
  | n + 1, l0, l1, l2 => f_Mdl_look_b2 (f_Mdl_look_h2 n) l0 l1 l2
def f_Mdl_look  (l0 : Nat) (l1 : Int32) : xM Unit :=
  f_Mdl_look_h2 1000 l0 l1 0
/-! ReadSideModel.in(JJJ)Z -/
def f_Mdl_in_b18  (t0 : Int32) : xM Int32 :=
  if t0 = 0 ∨ t0 = 1 then xr t0 else xst
def f_Mdl_in_b17   : xM Int32 :=
  f_Mdl_in_b18 0
def f_Mdl_in  (l0 : Int64) (l2 : Int64) (l4 : Int64) : xM Int32 :=
  if (lg_cmp l0 l2) < 0 then
    f_Mdl_in_b17
  else
    if (0 : Int32) < (lg_cmp l0 l4) then
      f_Mdl_in_b17
    else
      f_Mdl_in_b18 1
/-! ReadSideModel.isSession(I)Z -/
def f_Mdl_isSession  (l0 : Int32) : xM Int32 :=
  xb (f_Mdl_in l0.toInt64 0 7) fun v1 =>
  if v1 = 0 ∨ v1 = 1 then xr v1 else xst
/-! ReadSideModel.mode(II)I -/
def f_Mdl_mode_b84  (l3 : Int32) : xM Int32 :=
  xr l3
def f_Mdl_mode_b63 (k63 : Nat → Int32 → Int32 → xM Int32) (l0 : Nat) (l3 : Int32) (l4 : Int32) : xM Int32 :=
  gI l0 9 1 fun v1 =>
  if v1 ≤ l4 then
    f_Mdl_mode_b84 l3
  else
    xv l0 9 <| xb (f_Mdl_look l0 l4) fun v2 =>
    k63 l0 l3 (l4 + 1)
def f_Mdl_mode_h63  : Nat → Nat → Int32 → Int32 → xM Int32
  | 0, _, _, _ => xst
  | n + 1, l0, l3, l4 => f_Mdl_mode_b63 (f_Mdl_mode_h63 n) l0 l3 l4
def f_Mdl_mode_b29  (l0 : Nat) (l1 : Int32) (l2 : Int32) (t0 : Int32) (t1 : Nat) : xM Int32 :=
  pV t1 9 2 (.int t0) <|
  gI l0 9 2 fun v1 =>
  if v1 ≤ 0 then
    gA l0 9 22 fun v2 =>
    lI v2 l1 fun v3 =>
    gA l0 9 22 fun v4 =>
    sI v4 l1 l2 <|
    if v3 = l2 then
      f_Mdl_mode_b84 v3
    else
      f_Mdl_mode_h63 1000 l0 v3 0
  else
    xr 0
def f_Mdl_mode  (l0 : Nat) (l1 : Int32) (l2 : Int32) : xM Int32 :=
  xb (f_Mdl_isSession l1) fun v1 =>
  if v1 = 0 then
    f_Mdl_mode_b29 l0 l1 l2 1 l0
  else
    xb (f_Mdl_in l2.toInt64 0 15) fun v2 =>
    if v2 = 0 then
      f_Mdl_mode_b29 l0 l1 l2 2 l0
    else
      f_Mdl_mode_b29 l0 l1 l2 0 l0
/-! ReadSideModel.isReplica(I)Z -/
def f_Mdl_isReplica  (l0 : Nat) (l1 : Int32) : xM Int32 :=
  gI l0 9 1 fun v1 =>
  xb (f_Mdl_in l1.toInt64 0 ((v1 - 1).toInt64)) fun v2 =>
  if v2 = 0 ∨ v2 = 1 then xr v2 else xst
/-! ReadSideModel.home(II)I -/
def f_Mdl_home_b21  (l0 : Nat) (l1 : Int32) (l2 : Int32) (t0 : Int32) (t1 : Nat) : xM Int32 :=
  pV t1 9 2 (.int t0) <|
  gI l0 9 2 fun v1 =>
  if v1 ≤ 0 then
    gA l0 9 23 fun v2 =>
    lI v2 l1 fun v3 =>
    gA l0 9 23 fun v4 =>
    sI v4 l1 l2 <|
    xr v3
  else
    xr 0
def f_Mdl_home_b20  (l0 : Nat) (l1 : Int32) (l2 : Int32) (t0 : Nat) : xM Int32 :=
  f_Mdl_home_b21 l0 l1 l2 1 t0
def f_Mdl_home  (l0 : Nat) (l1 : Int32) (l2 : Int32) : xM Int32 :=
  xb (f_Mdl_isSession l1) fun v1 =>
  if v1 = 0 then
    f_Mdl_home_b20 l0 l1 l2 l0
  else
    xv l0 9 <| xb (f_Mdl_isReplica l0 l2) fun v2 =>
    if v2 = 0 then
      f_Mdl_home_b20 l0 l1 l2 l0
    else
      f_Mdl_home_b21 l0 l1 l2 0 l0
/-! ReadSideModel.command(IIIII)J -/
def f_Mdl_command_b373  (t0 : Int32) (t1 : Int32) (t2 : Int32) : xM Int64 :=
  xb (f_Mdl_tokenOf t2 t1 t0) fun v1 =>
  xr v1
def f_Mdl_command_b347  (l0 : Nat) (l6 : Int32) (l8 : Int32) (t0 : Int32) (t1 : Int32) : xM Int64 :=
  if l6 = 2 then
    gA l0 9 4 fun v3 =>
    lI v3 2 fun v4 =>
    f_Mdl_command_b373 v4 t0 t1
  else
    gA l0 9 10 fun v1 =>
    lI v1 ((3 * l8) + 2) fun v2 =>
    f_Mdl_command_b373 v2 t0 t1
def f_Mdl_command_b321  (l0 : Nat) (l6 : Int32) (l8 : Int32) (t0 : Int32) : xM Int64 :=
  if l6 = 1 then
    gA l0 9 4 fun v3 =>
    lI v3 1 fun v4 =>
    f_Mdl_command_b347 l0 l6 l8 v4 t0
  else
    gA l0 9 10 fun v1 =>
    lI v1 ((3 * l8) + 1) fun v2 =>
    f_Mdl_command_b347 l0 l6 l8 v2 t0
def f_Mdl_command_b260 (k196 : Nat → Int32 → Int32 → Int32 → Int32 → xM Int64) (l0 : Nat) (l1 : Int32) (l6 : Int32) (l8 : Int32) (l9 : Int32) (l10 : Int32) : xM Int64 :=
  gA l0 9 10 fun v1 =>
  sI v1 ((3 * l8) + l9) l10 <|
  k196 l0 l1 l6 l8 (l9 + 1)
def f_Mdl_command_b228 (k196 : Nat → Int32 → Int32 → Int32 → Int32 → xM Int64) (l0 : Nat) (l1 : Int32) (l6 : Int32) (l8 : Int32) (l9 : Int32) (t0 : Int32) : xM Int64 :=
  gA l0 9 22 fun v1 =>
  lI v1 l1 fun v2 =>
  if (v2 &&& 8) = 0 then
    f_Mdl_command_b260 k196 l0 l1 l6 l8 l9 t0
  else
    gA l0 9 24 fun v3 =>
    lI v3 ((3 * l1) + l9) fun v4 =>
    xb (f_Mdl_greater t0 v4) fun v5 =>
    f_Mdl_command_b260 k196 l0 l1 l6 l8 l9 v5
def f_Mdl_command_b196 (k196 : Nat → Int32 → Int32 → Int32 → Int32 → xM Int64) (l0 : Nat) (l1 : Int32) (l6 : Int32) (l8 : Int32) (l9 : Int32) : xM Int64 :=
  if (3 : Int32) ≤ l9 then
    gA l0 9 24 fun v1 =>
    gA l0 9 4 fun v2 =>
    lI v2 l6 fun v3 =>
    sI v1 ((3 * l1) + l6) v3 <|
    if l6 = 0 then
      gA l0 9 4 fun v6 =>
      lI v6 0 fun v7 =>
      f_Mdl_command_b321 l0 l6 l8 v7
    else
      gA l0 9 10 fun v4 =>
      lI v4 (3 * l8) fun v5 =>
      f_Mdl_command_b321 l0 l6 l8 v5
  else
    gA l0 9 22 fun v8 =>
    lI v8 l1 fun v9 =>
    if (v9 &&& 4) = 0 then
      f_Mdl_command_b228 k196 l0 l1 l6 l8 l9 0
    else
      gA l0 9 25 fun v10 =>
      lI v10 ((3 * l1) + l9) fun v11 =>
      f_Mdl_command_b228 k196 l0 l1 l6 l8 l9 v11
def f_Mdl_command_h196  : Nat → Nat → Int32 → Int32 → Int32 → Int32 → xM Int64
  | 0, _, _, _, _, _ => xst
  | n + 1, l0, l1, l6, l8, l9 => f_Mdl_command_b196 (f_Mdl_command_h196 n) l0 l1 l6 l8 l9
def f_Mdl_command_b120  (l0 : Nat) (l1 : Int32) (l2 : Int32) (l3 : Int32) (l4 : Int32) (l5 : Int32) (l6 : Int32) (t0 : Int32) (t1 : Nat) : xM Int64 :=
  pV t1 9 2 (.int t0) <|
  gI l0 9 2 fun v1 =>
  if v1 ≤ 0 then
    gA l0 9 4 fun v2 =>
    lI v2 l6 fun v3 =>
    sI v2 l6 (v3 + 1) <|
    gA l0 9 4 fun v4 =>
    lI v4 l6 fun v5 =>
    gA l0 9 6 fun v6 =>
    sI v6 ((401 * l6) + v5) l2 <|
    gA l0 9 7 fun v7 =>
    sI v7 ((401 * l6) + v5) l3 <|
    gA l0 9 8 fun v8 =>
    sI v8 ((401 * l6) + v5) l4 <|
    gA l0 9 9 fun v9 =>
    sI v9 ((401 * l6) + v5) l5 <|
    f_Mdl_command_h196 1000 l0 l1 l6 ((401 * l6) + v5) 0
  else
    xr 0
def f_Mdl_command_b98  (l0 : Nat) (l1 : Int32) (l2 : Int32) (l3 : Int32) (l4 : Int32) (l5 : Int32) (l6 : Int32) (t0 : Nat) : xM Int64 :=
  f_Mdl_command_b120 l0 l1 l2 l3 l4 l5 l6 2 t0
def f_Mdl_command_b61  (l0 : Nat) (l1 : Int32) (l2 : Int32) (l3 : Int32) (l4 : Int32) (l5 : Int32) (l6 : Int32) (t0 : Int32) : xM Int64 :=
  if t0 = 0 then
    f_Mdl_command_b120 l0 l1 l2 l3 l4 l5 l6 1 l0
  else
    xb (f_Mdl_in l2.toInt64 0 4) fun v1 =>
    if v1 = 0 then
      f_Mdl_command_b98 l0 l1 l2 l3 l4 l5 l6 l0
    else
      xb (f_Mdl_in l5.toInt64 1 1000) fun v2 =>
      if v2 = 0 then
        f_Mdl_command_b98 l0 l1 l2 l3 l4 l5 l6 l0
      else
        gA l0 9 4 fun v3 =>
        lI v3 l6 fun v4 =>
        if v4 = 400 then
          f_Mdl_command_b120 l0 l1 l2 l3 l4 l5 l6 3 l0
        else
          f_Mdl_command_b120 l0 l1 l2 l3 l4 l5 l6 0 l0
def f_Mdl_command_b60  (l0 : Nat) (l1 : Int32) (l2 : Int32) (l3 : Int32) (l4 : Int32) (l5 : Int32) (l6 : Int32) : xM Int64 :=
  f_Mdl_command_b61 l0 l1 l2 l3 l4 l5 l6 0
def f_Mdl_command_b22  (l0 : Nat) (l1 : Int32) (l2 : Int32) (l3 : Int32) (l4 : Int32) (l5 : Int32) (t0 : Int32) : xM Int64 :=
  xb (f_Mdl_isSession l1) fun v1 =>
  if v1 = 0 then
    f_Mdl_command_b60 l0 l1 l2 l3 l4 l5 t0
  else
    xb (f_Mdl_in l3.toInt64 0 29) fun v2 =>
    if v2 = 0 then
      f_Mdl_command_b60 l0 l1 l2 l3 l4 l5 t0
    else
      xb (f_Mdl_in l4.toInt64 0 9) fun v3 =>
      if v3 = 0 then
        f_Mdl_command_b60 l0 l1 l2 l3 l4 l5 t0
      else
        f_Mdl_command_b61 l0 l1 l2 l3 l4 l5 t0 1
def f_Mdl_command  (l0 : Nat) (l1 : Int32) (l2 : Int32) (l3 : Int32) (l4 : Int32) (l5 : Int32) : xM Int64 :=
  xb (f_Mdl_in l3.toInt64 0 29) fun v1 =>
  if v1 = 0 then
    f_Mdl_command_b22 l0 l1 l2 l3 l4 l5 0
  else
    gI l0 9 0 fun v2 =>
    rI l3 v2 fun v3 =>
    f_Mdl_command_b22 l0 l1 l2 l3 l4 l5 v3
/-! ReadSideModel.lesser(II)I -/
def f_Mdl_lesser_b10  (t0 : Int32) : xM Int32 :=
  xr t0
def f_Mdl_lesser  (l0 : Int32) (l1 : Int32) : xM Int32 :=
  if l1 ≤ l0 then
    f_Mdl_lesser_b10 l1
  else
    f_Mdl_lesser_b10 l0
/-! ReadSideModel.take(II)V -/
def f_Mdl_take_b302   : xM Unit :=
  xr ()
def f_Mdl_take  (l0 : Nat) (l1 : Int32) (l2 : Int32) : xM Unit :=
  gA l0 9 7 fun v1 =>
  lI v1 l2 fun v2 =>
  gA l0 9 8 fun v3 =>
  lI v3 l2 fun v4 =>
  gA l0 9 7 fun v5 =>
  lI v5 l2 fun v6 =>
  gA l0 9 9 fun v7 =>
  lI v7 l2 fun v8 =>
  gA l0 9 6 fun v9 =>
  lI v9 l2 fun v10 =>
  if v10 = 0 then
    gA l0 9 11 fun v11 =>
    lI v11 ((30 * l1) + v2) fun v12 =>
    if (100000 : Int32) < (v12 + v8) then
      f_Mdl_take_b302
    else
      gA l0 9 11 fun v13 =>
      lI v13 ((30 * l1) + v2) fun v14 =>
      sI v13 ((30 * l1) + v2) (v14 + v8) <|
      f_Mdl_take_b302
  else
  if v10 = 1 then
    gA l0 9 11 fun v15 =>
    lI v15 ((30 * l1) + v2) fun v16 =>
    gA l0 9 12 fun v17 =>
    lI v17 ((30 * l1) + v2) fun v18 =>
    if (v16 - v18) < v8 then
      gA l0 9 17 fun v19 =>
      lI v19 ((10 * l1) + v4) fun v20 =>
      sI v19 ((10 * l1) + v4) (v20 + 1) <|
      f_Mdl_take_b302
    else
      gA l0 9 15 fun v21 =>
      lI v21 ((30 * ((10 * l1) + v4)) + v6) fun v22 =>
      sI v21 ((30 * ((10 * l1) + v4)) + v6) (v22 + v8) <|
      gA l0 9 12 fun v23 =>
      lI v23 ((30 * l1) + v2) fun v24 =>
      sI v23 ((30 * l1) + v2) (v24 + v8) <|
      f_Mdl_take_b302
  else
  if v10 = 2 then
    gA l0 9 15 fun v25 =>
    lI v25 ((30 * ((10 * l1) + v4)) + v6) fun v26 =>
    if v8 ≤ v26 then
      gA l0 9 15 fun v27 =>
      lI v27 ((30 * ((10 * l1) + v4)) + v6) fun v28 =>
      sI v27 ((30 * ((10 * l1) + v4)) + v6) (v28 - v8) <|
      gA l0 9 12 fun v29 =>
      lI v29 ((30 * l1) + v2) fun v30 =>
      sI v29 ((30 * l1) + v2) (v30 - v8) <|
      gA l0 9 11 fun v31 =>
      lI v31 ((30 * l1) + v2) fun v32 =>
      sI v31 ((30 * l1) + v2) (v32 - v8) <|
      gA l0 9 13 fun v33 =>
      lI v33 ((30 * l1) + v2) fun v34 =>
      sI v33 ((30 * l1) + v2) (v34 + v8) <|
      gA l0 9 16 fun v35 =>
      lJ v35 ((10 * l1) + v4) fun v36 =>
      gA l0 9 14 fun v37 =>
      lI v37 ((30 * l1) + v2) fun v38 =>
      sJ v35 ((10 * l1) + v4) (v36 + (v8.toInt64 * v38.toInt64)) <|
      f_Mdl_take_b302
    else
      f_Mdl_take_b302
  else
  if v10 = 3 then
    gA l0 9 15 fun v39 =>
    lI v39 ((30 * ((10 * l1) + v4)) + v6) fun v40 =>
    xb (f_Mdl_lesser v8 v40) fun v41 =>
    gA l0 9 15 fun v42 =>
    lI v42 ((30 * ((10 * l1) + v4)) + v6) fun v43 =>
    sI v42 ((30 * ((10 * l1) + v4)) + v6) (v43 - v41) <|
    gA l0 9 12 fun v44 =>
    lI v44 ((30 * l1) + v2) fun v45 =>
    sI v44 ((30 * l1) + v2) (v45 - v41) <|
    f_Mdl_take_b302
  else
    gA l0 9 14 fun v46 =>
    sI v46 ((30 * l1) + v2) v8 <|
    f_Mdl_take_b302
/-! ReadSideModel.advance(II)I -/
def f_Mdl_advance  (l0 : Nat) (l1 : Int32) (l2 : Int32) : xM Int32 :=
  gA l0 9 18 fun v1 =>
  lI v1 ((3 * l1) + l2) fun v2 =>
  gA l0 9 4 fun v3 =>
  lI v3 l2 fun v4 =>
  if v2 = v4 then
    xr 0
  else
    gA l0 9 18 fun v5 =>
    lI v5 ((3 * l1) + l2) fun v6 =>
    gA l0 9 10 fun v7 =>
    xv l0 9 <| xb (f_Mdl_covers l0 v7 (3 * (((401 * l2) + v6) + 1)) l1) fun v8 =>
    if v8 = 0 then
      xr (-1)
    else
      xv l0 9 <| xb (f_Mdl_take l0 l1 (((401 * l2) + v6) + 1)) fun v9 =>
      gA l0 9 18 fun v10 =>
      lI v10 ((3 * l1) + l2) fun v11 =>
      sI v10 ((3 * l1) + l2) (v11 + 1) <|
      gA l0 9 20 fun v12 =>
      gI l0 9 0 fun v13 =>
      rI (l2 + 1) v13 fun v14 =>
      sI v12 l1 v14 <|
      xv l0 9 <| xb (f_Mdl_look l0 l1) fun v15 =>
      xr 1
/-! ReadSideModel.isPart(I)Z -/
def f_Mdl_isPart  (l0 : Nat) (l1 : Int32) : xM Int32 :=
  gI l0 9 0 fun v1 =>
  xb (f_Mdl_in l1.toInt64 0 ((v1 - 1).toInt64)) fun v2 =>
  if v2 = 0 ∨ v2 = 1 then xr v2 else xst
/-! ReadSideModel.step(II)I -/
def f_Mdl_step_b56  (t0 : Int32) : xM Int32 :=
  xr t0
def f_Mdl_step_b22  (l0 : Nat) (l1 : Int32) (l2 : Int32) (t0 : Int32) (t1 : Nat) : xM Int32 :=
  pV t1 9 2 (.int t0) <|
  gI l0 9 2 fun v1 =>
  if v1 ≤ 0 then
    gA l0 9 21 fun v2 =>
    lZ v2 l1 fun v3 =>
    if v3 = 0 then
      f_Mdl_step_b56 (-2)
    else
      xv l0 9 <| xb (f_Mdl_advance l0 l1 l2) fun v4 =>
      f_Mdl_step_b56 v4
  else
    f_Mdl_step_b56 0
def f_Mdl_step_b21  (l0 : Nat) (l1 : Int32) (l2 : Int32) (t0 : Nat) : xM Int32 :=
  f_Mdl_step_b22 l0 l1 l2 1 t0
def f_Mdl_step  (l0 : Nat) (l1 : Int32) (l2 : Int32) : xM Int32 :=
  xv l0 9 <| xb (f_Mdl_isReplica l0 l1) fun v1 =>
  if v1 = 0 then
    f_Mdl_step_b21 l0 l1 l2 l0
  else
    xv l0 9 <| xb (f_Mdl_isPart l0 l2) fun v2 =>
    if v2 = 0 then
      f_Mdl_step_b21 l0 l1 l2 l0
    else
      f_Mdl_step_b22 l0 l1 l2 0 l0
/-! ReadSideModel.speed(II)I -/
def f_Mdl_speed_b30  (l0 : Nat) (l1 : Int32) (l2 : Int32) (t0 : Int32) (t1 : Nat) : xM Int32 :=
  pV t1 9 2 (.int t0) <|
  gI l0 9 2 fun v1 =>
  if v1 ≤ 0 then
    gA l0 9 19 fun v2 =>
    lI v2 l1 fun v3 =>
    gA l0 9 19 fun v4 =>
    sI v4 l1 l2 <|
    xr v3
  else
    xr 0
def f_Mdl_speed  (l0 : Nat) (l1 : Int32) (l2 : Int32) : xM Int32 :=
  xv l0 9 <| xb (f_Mdl_isReplica l0 l1) fun v1 =>
  if v1 = 0 then
    f_Mdl_speed_b30 l0 l1 l2 1 l0
  else
    xb (f_Mdl_in l2.toInt64 0 10) fun v2 =>
    if v2 = 0 then
      f_Mdl_speed_b30 l0 l1 l2 2 l0
    else
      f_Mdl_speed_b30 l0 l1 l2 0 l0
/-! ReadSideModel.fail(I)V -/
def f_Mdl_fail  (l0 : Nat) (l1 : Int32) : xM Unit :=
  gA l0 9 27 fun v1 =>
  sI v1 l1 2 <|
  gA l0 9 38 fun v2 =>
  gI l0 9 3 fun v3 =>
  sI v2 l1 v3 <|
  xr ()
/-! ReadSideModel.tick()I -/
def f_Mdl_tick_b154 (k112 : Nat → Int32 → Int32 → xM Int32) (l0 : Nat) (l1 : Int32) (l2 : Int32) : xM Int32 :=
  k112 l0 l1 (l2 + 1)
def f_Mdl_tick_b112 (k112 : Nat → Int32 → Int32 → xM Int32) (l0 : Nat) (l1 : Int32) (l2 : Int32) : xM Int32 :=
  gI l0 9 26 fun v1 =>
  if v1 ≤ l2 then
    xr l1
  else
    gA l0 9 27 fun v2 =>
    lI v2 l2 fun v3 =>
    if v3 = 0 then
      gI l0 9 3 fun v4 =>
      gA l0 9 32 fun v5 =>
      lI v5 l2 fun v6 =>
      gA l0 9 31 fun v7 =>
      lI v7 l2 fun v8 =>
      if (v4 - v6) < v8 then
        f_Mdl_tick_b154 k112 l0 l1 l2
      else
        xv l0 9 <| xb (f_Mdl_fail l0 l2) fun v9 =>
        f_Mdl_tick_b154 k112 l0 l1 l2
    else
      f_Mdl_tick_b154 k112 l0 l1 l2
def f_Mdl_tick_h112  : Nat → Nat → Int32 → Int32 → xM Int32
  | 0, _, _, _ => xst
  | n + 1, l0, l1, l2 => f_Mdl_tick_b112 (f_Mdl_tick_h112 n) l0 l1 l2
def f_Mdl_tick_b100 (k14 : Nat → Int32 → Int32 → xM Int32) (l0 : Nat) (l1 : Int32) (l2 : Int32) (l3 : Int32) : xM Int32 :=
  k14 l0 (l1 + l3) (l2 + 1)
def f_Mdl_tick_b86 (k14 : Nat → Int32 → Int32 → xM Int32) (k35 : Nat → Int32 → Int32 → Int32 → Int32 → Int32 → xM Int32) (l0 : Nat) (l1 : Int32) (l2 : Int32) (l3 : Int32) (l4 : Int32) (l5 : Int32) : xM Int32 :=
  gI l0 9 0 fun v1 =>
  rI (l5 + 1) v1 fun v2 =>
  k35 l0 l1 l2 l3 l4 v2
def f_Mdl_tick_b35 (k14 : Nat → Int32 → Int32 → xM Int32) (k35 : Nat → Int32 → Int32 → Int32 → Int32 → Int32 → xM Int32) (l0 : Nat) (l1 : Int32) (l2 : Int32) (l3 : Int32) (l4 : Int32) (l5 : Int32) : xM Int32 :=
  gA l0 9 21 fun v1 =>
  lZ v1 l2 fun v2 =>
  if v2 = 0 then
    f_Mdl_tick_b100 k14 l0 l1 l2 l3
  else
    gA l0 9 19 fun v3 =>
    lI v3 l2 fun v4 =>
    if v4 ≤ l3 then
      f_Mdl_tick_b100 k14 l0 l1 l2 l3
    else
      gI l0 9 0 fun v5 =>
      if v5 ≤ l4 then
        f_Mdl_tick_b100 k14 l0 l1 l2 l3
      else
        xv l0 9 <| xb (f_Mdl_advance l0 l2 l5) fun v6 =>
        if v6 = 1 then
          f_Mdl_tick_b86 k14 k35 l0 l1 l2 (l3 + 1) 0 l5
        else
          f_Mdl_tick_b86 k14 k35 l0 l1 l2 l3 (l4 + 1) l5
def f_Mdl_tick_h35 (k14 : Nat → Int32 → Int32 → xM Int32) : Nat → Nat → Int32 → Int32 → Int32 → Int32 → Int32 → xM Int32
  | 0, _, _, _, _, _, _ => xst
  | n + 1, l0, l1, l2, l3, l4, l5 => f_Mdl_tick_b35 k14 (f_Mdl_tick_h35 k14 n) l0 l1 l2 l3 l4 l5
def f_Mdl_tick_b14 (k14 : Nat → Int32 → Int32 → xM Int32) (l0 : Nat) (l1 : Int32) (l2 : Int32) : xM Int32 :=
  gI l0 9 1 fun v1 =>
  if v1 ≤ l2 then
    f_Mdl_tick_h112 1000 l0 l1 0
  else
    gA l0 9 20 fun v2 =>
    lI v2 l2 fun v3 =>
    f_Mdl_tick_h35 k14 1000 l0 l1 l2 0 0 v3
def f_Mdl_tick_h14  : Nat → Nat → Int32 → Int32 → xM Int32
  | 0, _, _, _ => xst
  | n + 1, l0, l1, l2 => f_Mdl_tick_b14 (f_Mdl_tick_h14 n) l0 l1 l2
def f_Mdl_tick  (l0 : Nat) : xM Int32 :=
  gI l0 9 3 fun v1 =>
  pV l0 9 3 (.int (v1 + 1)) <|
  f_Mdl_tick_h14 1000 l0 0 0
/-! ReadSideModel.ticks(I)I -/
def f_Mdl_ticks_b50  (l2 : Int32) : xM Int32 :=
  xr l2
def f_Mdl_ticks_b25 (k25 : Nat → Int32 → Int32 → Int32 → xM Int32) (l0 : Nat) (l1 : Int32) (l2 : Int32) (l3 : Int32) : xM Int32 :=
  if l1 ≤ l3 then
    f_Mdl_ticks_b50 l2
  else
    gI l0 9 2 fun v1 =>
    if v1 = 0 then
      xv l0 9 <| xb (f_Mdl_tick l0) fun v2 =>
      k25 l0 l1 (l2 + v2) (l3 + 1)
    else
      f_Mdl_ticks_b50 l2
def f_Mdl_ticks_h25  : Nat → Nat → Int32 → Int32 → Int32 → xM Int32
  | 0, _, _, _, _ => xst
  | n + 1, l0, l1, l2, l3 => f_Mdl_ticks_b25 (f_Mdl_ticks_h25 n) l0 l1 l2 l3
def f_Mdl_ticks_b18  (l0 : Nat) (l1 : Int32) (t0 : Int32) (t1 : Nat) : xM Int32 :=
  pV t1 9 2 (.int t0) <|
  f_Mdl_ticks_h25 1000 l0 l1 0 0
def f_Mdl_ticks  (l0 : Nat) (l1 : Int32) : xM Int32 :=
  xb (f_Mdl_in l1.toInt64 0 100) fun v1 =>
  if v1 = 0 then
    f_Mdl_ticks_b18 l0 l1 1 l0
  else
    f_Mdl_ticks_b18 l0 l1 0 l0
/-! ReadSideModel.up(IZ)Z -/
def f_Mdl_up_b53  (l3 : Int32) : xM Int32 :=
  if l3 = 0 ∨ l3 = 1 then xr l3 else xst
def f_Mdl_up_b14  (l0 : Nat) (l1 : Int32) (l2 : Int32) (t0 : Int32) (t1 : Nat) : xM Int32 :=
  pV t1 9 2 (.int t0) <|
  gI l0 9 2 fun v1 =>
  if v1 ≤ 0 then
    gA l0 9 21 fun v2 =>
    lZ v2 l1 fun v3 =>
    gA l0 9 21 fun v4 =>
    sZ v4 l1 l2 <|
    if l2 = 0 then
      f_Mdl_up_b53 v3
    else
      if v3 = 0 then
        xv l0 9 <| xb (f_Mdl_look l0 l1) fun v5 =>
        f_Mdl_up_b53 v3
      else
        f_Mdl_up_b53 v3
  else
    if (0 : Int32) = 0 ∨ (0 : Int32) = 1 then xr 0 else xst
def f_Mdl_up  (l0 : Nat) (l1 : Int32) (l2 : Int32) : xM Int32 :=
  xv l0 9 <| xb (f_Mdl_isReplica l0 l1) fun v1 =>
  if v1 = 0 then
    f_Mdl_up_b14 l0 l1 l2 1 l0
  else
    f_Mdl_up_b14 l0 l1 l2 0 l0
/-! ReadSideModel.copy(II)V -/
def f_Mdl_copy_b201 (k201 : Nat → Int32 → Int32 → Int32 → xM Unit) (l0 : Nat) (l1 : Int32) (l2 : Int32) (l3 : Int32) : xM Unit :=
  if (3 : Int32) ≤ l3 then
    xr ()
  else
    gA l0 9 18 fun v1 =>
    gA l0 9 18 fun v2 =>
    lI v2 ((3 * l1) + l3) fun v3 =>
    sI v1 ((3 * l2) + l3) v3 <|
    k201 l0 l1 l2 (l3 + 1)
def f_Mdl_copy_h201  : Nat → Nat → Int32 → Int32 → Int32 → xM Unit
  | 0, _, _, _, _ => xst
  | n + 1, l0, l1, l2, l3 => f_Mdl_copy_b201 (f_Mdl_copy_h201 n) l0 l1 l2 l3
def f_Mdl_copy_b143 (k143 : Nat → Int32 → Int32 → Int32 → xM Unit) (l0 : Nat) (l1 : Int32) (l2 : Int32) (l3 : Int32) : xM Unit :=
  if (10 : Int32) ≤ l3 then
    f_Mdl_copy_h201 1000 l0 l1 l2 0
  else
    gA l0 9 16 fun v1 =>
    gA l0 9 16 fun v2 =>
    lJ v2 ((10 * l1) + l3) fun v3 =>
    sJ v1 ((10 * l2) + l3) v3 <|
    gA l0 9 17 fun v4 =>
    gA l0 9 17 fun v5 =>
    lI v5 ((10 * l1) + l3) fun v6 =>
    sI v4 ((10 * l2) + l3) v6 <|
    k143 l0 l1 l2 (l3 + 1)
def f_Mdl_copy_h143  : Nat → Nat → Int32 → Int32 → Int32 → xM Unit
  | 0, _, _, _, _ => xst
  | n + 1, l0, l1, l2, l3 => f_Mdl_copy_b143 (f_Mdl_copy_h143 n) l0 l1 l2 l3
def f_Mdl_copy_b104 (k104 : Nat → Int32 → Int32 → Int32 → xM Unit) (l0 : Nat) (l1 : Int32) (l2 : Int32) (l3 : Int32) : xM Unit :=
  if (300 : Int32) ≤ l3 then
    f_Mdl_copy_h143 1000 l0 l1 l2 0
  else
    gA l0 9 15 fun v1 =>
    gA l0 9 15 fun v2 =>
    lI v2 ((300 * l1) + l3) fun v3 =>
    sI v1 ((300 * l2) + l3) v3 <|
    k104 l0 l1 l2 (l3 + 1)
def f_Mdl_copy_h104  : Nat → Nat → Int32 → Int32 → Int32 → xM Unit
  | 0, _, _, _, _ => xst
  | n + 1, l0, l1, l2, l3 => f_Mdl_copy_b104 (f_Mdl_copy_h104 n) l0 l1 l2 l3
def f_Mdl_copy_b2 (k2 : Nat → Int32 → Int32 → Int32 → xM Unit) (l0 : Nat) (l1 : Int32) (l2 : Int32) (l3 : Int32) : xM Unit :=
  if (30 : Int32) ≤ l3 then
    f_Mdl_copy_h104 1000 l0 l1 l2 0
  else
    gA l0 9 11 fun v1 =>
    gA l0 9 11 fun v2 =>
    lI v2 ((30 * l1) + l3) fun v3 =>
    sI v1 ((30 * l2) + l3) v3 <|
    gA l0 9 12 fun v4 =>
    gA l0 9 12 fun v5 =>
    lI v5 ((30 * l1) + l3) fun v6 =>
    sI v4 ((30 * l2) + l3) v6 <|
    gA l0 9 13 fun v7 =>
    gA l0 9 13 fun v8 =>
    lI v8 ((30 * l1) + l3) fun v9 =>
    sI v7 ((30 * l2) + l3) v9 <|
    gA l0 9 14 fun v10 =>
    gA l0 9 14 fun v11 =>
    lI v11 ((30 * l1) + l3) fun v12 =>
    sI v10 ((30 * l2) + l3) v12 <|
    k2 l0 l1 l2 (l3 + 1)
def f_Mdl_copy_h2  : Nat → Nat → Int32 → Int32 → Int32 → xM Unit
  | 0, _, _, _, _ => xst
  | n + 1, l0, l1, l2, l3 => f_Mdl_copy_b2 (f_Mdl_copy_h2 n) l0 l1 l2 l3
def f_Mdl_copy  (l0 : Nat) (l1 : Int32) (l2 : Int32) : xM Unit :=
  f_Mdl_copy_h2 1000 l0 l1 l2 0
/-! ReadSideModel.sum(I)I -/
def f_Mdl_sum  (l0 : Nat) (l1 : Int32) : xM Int32 :=
  gA l0 9 18 fun v1 =>
  lI v1 (3 * l1) fun v2 =>
  gA l0 9 18 fun v3 =>
  lI v3 ((3 * l1) + 1) fun v4 =>
  gA l0 9 18 fun v5 =>
  lI v5 ((3 * l1) + 2) fun v6 =>
  xr ((v2 + v4) + v6)
/-! ReadSideModel.snapshot(I)I -/
def f_Mdl_snapshot_b14  (l0 : Nat) (l1 : Int32) (t0 : Int32) (t1 : Nat) : xM Int32 :=
  pV t1 9 2 (.int t0) <|
  gI l0 9 2 fun v1 =>
  if v1 ≤ 0 then
    xv l0 9 <| xb (f_Mdl_copy l0 l1 (4 + l1)) fun v2 =>
    xv l0 9 <| xb (f_Mdl_sum l0 l1) fun v3 =>
    xr v3
  else
    xr 0
def f_Mdl_snapshot  (l0 : Nat) (l1 : Int32) : xM Int32 :=
  xv l0 9 <| xb (f_Mdl_isReplica l0 l1) fun v1 =>
  if v1 = 0 then
    f_Mdl_snapshot_b14 l0 l1 1 l0
  else
    f_Mdl_snapshot_b14 l0 l1 0 l0
/-! ReadSideModel.crash(I)I -/
def f_Mdl_crash_b14  (l0 : Nat) (l1 : Int32) (t0 : Int32) (t1 : Nat) : xM Int32 :=
  pV t1 9 2 (.int t0) <|
  gI l0 9 2 fun v1 =>
  if v1 ≤ 0 then
    xv l0 9 <| xb (f_Mdl_sum l0 l1) fun v2 =>
    xv l0 9 <| xb (f_Mdl_sum l0 (4 + l1)) fun v3 =>
    xv l0 9 <| xb (f_Mdl_copy l0 (4 + l1) l1) fun v4 =>
    xr (v2 - v3)
  else
    xr 0
def f_Mdl_crash  (l0 : Nat) (l1 : Int32) : xM Int32 :=
  xv l0 9 <| xb (f_Mdl_isReplica l0 l1) fun v1 =>
  if v1 = 0 then
    f_Mdl_crash_b14 l0 l1 1 l0
  else
    f_Mdl_crash_b14 l0 l1 0 l0
/-! ReadSideModel.trim()I -/
def f_Mdl_trim_b24 (k9 : Nat → Int32 → Int32 → xM Int32) (k24 : Nat → Int32 → Int32 → Int32 → Int32 → xM Int32) (l0 : Nat) (l1 : Int32) (l2 : Int32) (l3 : Int32) (l4 : Int32) : xM Int32 :=
  gI l0 9 1 fun v1 =>
  if v1 ≤ l4 then
    gA l0 9 5 fun v2 =>
    lI v2 l2 fun v3 =>
    gA l0 9 5 fun v4 =>
    sI v4 l2 l3 <|
    k9 l0 (l1 + (l3 - v3)) (l2 + 1)
  else
    gA l0 9 18 fun v5 =>
    lI v5 ((3 * (4 + l4)) + l2) fun v6 =>
    xb (f_Mdl_lesser l3 v6) fun v7 =>
    k24 l0 l1 l2 v7 (l4 + 1)
def f_Mdl_trim_h24 (k9 : Nat → Int32 → Int32 → xM Int32) : Nat → Nat → Int32 → Int32 → Int32 → Int32 → xM Int32
  | 0, _, _, _, _, _ => xst
  | n + 1, l0, l1, l2, l3, l4 => f_Mdl_trim_b24 k9 (f_Mdl_trim_h24 k9 n) l0 l1 l2 l3 l4
def f_Mdl_trim_b9 (k9 : Nat → Int32 → Int32 → xM Int32) (l0 : Nat) (l1 : Int32) (l2 : Int32) : xM Int32 :=
  gI l0 9 0 fun v1 =>
  if v1 ≤ l2 then
    xr l1
  else
    f_Mdl_trim_h24 k9 1000 l0 l1 l2 400 0
def f_Mdl_trim_h9  : Nat → Nat → Int32 → Int32 → xM Int32
  | 0, _, _, _ => xst
  | n + 1, l0, l1, l2 => f_Mdl_trim_b9 (f_Mdl_trim_h9 n) l0 l1 l2
def f_Mdl_trim  (l0 : Nat) : xM Int32 :=
  pV l0 9 2 (.int 0) <|
  f_Mdl_trim_h9 1000 l0 0 0
/-! ReadSideModel.waiting()I -/
def f_Mdl_waiting_b27 (k4 : Nat → Int32 → Int32 → xM Int32) (l0 : Nat) (l2 : Int32) (t0 : Int32) (t1 : Int32) : xM Int32 :=
  k4 l0 (t1 + t0) (l2 + 1)
def f_Mdl_waiting_b4 (k4 : Nat → Int32 → Int32 → xM Int32) (l0 : Nat) (l1 : Int32) (l2 : Int32) : xM Int32 :=
  gI l0 9 26 fun v1 =>
  if v1 ≤ l2 then
    xr l1
  else
    gA l0 9 27 fun v2 =>
    lI v2 l2 fun v3 =>
    if v3 = 0 then
      f_Mdl_waiting_b27 k4 l0 l2 1 l1
    else
      f_Mdl_waiting_b27 k4 l0 l2 0 l1
def f_Mdl_waiting_h4  : Nat → Nat → Int32 → Int32 → xM Int32
  | 0, _, _, _ => xst
  | n + 1, l0, l1, l2 => f_Mdl_waiting_b4 (f_Mdl_waiting_h4 n) l0 l1 l2
def f_Mdl_waiting  (l0 : Nat) : xM Int32 :=
  f_Mdl_waiting_h4 1000 l0 0 0
/-! ReadSideModel.position(JI)I -/
def f_Mdl_position  (l0 : Int64) (l2 : Int32) : xM Int32 :=
  xr (((l0 >>> ((20 + (9 * l2)).toInt64 &&& 63)) &&& 511).toInt32)
/-! ReadSideModel.isQuestion(II)Z -/
def f_Mdl_isQuestion_b68  (t0 : Int32) : xM Int32 :=
  if t0 = 0 ∨ t0 = 1 then xr t0 else xst
def f_Mdl_isQuestion_b23  (l2 : Int32) : xM Int32 :=
  xb (f_Mdl_in l2.toInt64 0 29) fun v1 =>
  f_Mdl_isQuestion_b68 v1
def f_Mdl_isQuestion_b10   : xM Int32 :=
  if (0 : Int32) = 0 ∨ (0 : Int32) = 1 then xr 0 else xst
def f_Mdl_isQuestion  (l0 : Nat) (l1 : Int32) (l2 : Int32) : xM Int32 :=
  if l1 < 0 then
    f_Mdl_isQuestion_b10
  else
    if l1 ≤ 8 then
      if l1 < 4 then
        f_Mdl_isQuestion_b23 l2
      else
        if l1 = 7 then
          f_Mdl_isQuestion_b23 l2
        else
          if (7 : Int32) ≤ l1 then
            gI l0 9 0 fun v1 =>
            xb (f_Mdl_in l2.toInt64 (-1) ((v1 - 1).toInt64)) fun v2 =>
            f_Mdl_isQuestion_b68 v2
          else
            xb (f_Mdl_in l2.toInt64 0 9) fun v3 =>
            f_Mdl_isQuestion_b68 v3
    else
      f_Mdl_isQuestion_b10
/-! ReadSideModel.isToken(J)Z -/
def f_Mdl_isToken_b82 (k40 : Nat → Int64 → Int32 → Int32 → xM Int32) (l0 : Nat) (l1 : Int64) (l6 : Int32) (t0 : Int32) (t1 : Int32) : xM Int32 :=
  k40 l0 l1 (t1 &&& t0) (l6 + 1)
def f_Mdl_isToken_b74 (k40 : Nat → Int64 → Int32 → Int32 → xM Int32) (l0 : Nat) (l1 : Int64) (l6 : Int32) (t0 : Int32) (t1 : Int32) (t2 : Int32) : xM Int32 :=
  if t0 < t1 then
    f_Mdl_isToken_b82 k40 l0 l1 l6 0 t2
  else
    f_Mdl_isToken_b82 k40 l0 l1 l6 1 t2
def f_Mdl_isToken_b40 (k40 : Nat → Int64 → Int32 → Int32 → xM Int32) (l0 : Nat) (l1 : Int64) (l5 : Int32) (l6 : Int32) : xM Int32 :=
  if (3 : Int32) ≤ l6 then
    if l5 = 0 ∨ l5 = 1 then xr l5 else xst
  else
    xb (f_Mdl_position l1 l6) fun v1 =>
    gI l0 9 0 fun v2 =>
    if v2 ≤ l6 then
      f_Mdl_isToken_b74 k40 l0 l1 l6 0 v1 l5
    else
      gA l0 9 4 fun v3 =>
      lI v3 l6 fun v4 =>
      f_Mdl_isToken_b74 k40 l0 l1 l6 v4 v1 l5
def f_Mdl_isToken_h40  : Nat → Nat → Int64 → Int32 → Int32 → xM Int32
  | 0, _, _, _, _ => xst
  | n + 1, l0, l1, l5, l6 => f_Mdl_isToken_b40 (f_Mdl_isToken_h40 n) l0 l1 l5 l6
def f_Mdl_isToken_b32   : xM Int32 :=
  if (0 : Int32) = 0 ∨ (0 : Int32) = 1 then xr 0 else xst
def f_Mdl_isToken  (l0 : Nat) (l1 : Int64) : xM Int32 :=
  if (lg_cmp l1 0) < 0 then
    f_Mdl_isToken_b32
  else
    if (0 : Int32) ≤ (lg_cmp (l1 >>> ((20 : Int32).toInt64 &&& 63)) 134217728) then
      f_Mdl_isToken_b32
    else
      xb (f_Mdl_check (l1 >>> ((20 : Int32).toInt64 &&& 63))) fun v1 =>
      if (lg_cmp (l1 &&& 1048575) v1) = 0 then
        f_Mdl_isToken_h40 1000 l0 l1 1 0
      else
        f_Mdl_isToken_b32
/-! ReadSideModel.ask(IJIIII)I -/
def f_Mdl_ask_b371  (l9 : Int32) : xM Int32 :=
  xr l9
def f_Mdl_ask_b298  (l0 : Nat) (l1 : Int32) (l5 : Int32) (l9 : Int32) (l10 : Int32) (t0 : Int32) (t1 : Nat) : xM Int32 :=
  pV t1 9 2 (.int t0) <|
  gI l0 9 2 fun v1 =>
  if v1 ≤ 0 then
    gI l0 9 26 fun v2 =>
    pV l0 9 26 (.int (v2 + 1)) <|
    gA l0 9 27 fun v3 =>
    sI v3 l9 0 <|
    gI l0 9 1 fun v4 =>
    if v4 ≤ l10 then
      if l5 = 0 then
        xv l0 9 <| xb (f_Mdl_fail l0 l9) fun v5 =>
        f_Mdl_ask_b371 l9
      else
        f_Mdl_ask_b371 l9
    else
      gA l0 9 23 fun v6 =>
      lI v6 l1 fun v7 =>
      gI l0 9 1 fun v8 =>
      rI (v7 + l10) v8 fun v9 =>
      xv l0 9 <| xb (f_Mdl_answer l0 v9 l9) fun v10 =>
      f_Mdl_ask_b371 l9
  else
    xr 0
def f_Mdl_ask_b297  (l0 : Nat) (l1 : Int32) (l5 : Int32) (l9 : Int32) (l10 : Int32) (t0 : Nat) : xM Int32 :=
  f_Mdl_ask_b298 l0 l1 l5 l9 l10 0 t0
def f_Mdl_ask_b269  (l0 : Nat) (l1 : Int32) (l5 : Int32) (l9 : Int32) (l10 : Int32) : xM Int32 :=
  gI l0 9 1 fun v1 =>
  if l10 = v1 then
    if l5 ≤ 0 then
      f_Mdl_ask_b297 l0 l1 l5 l9 l10 l0
    else
      xv l0 9 <| xb (f_Mdl_waiting l0) fun v2 =>
      if v2 = 40 then
        f_Mdl_ask_b298 l0 l1 l5 l9 l10 3 l0
      else
        f_Mdl_ask_b297 l0 l1 l5 l9 l10 l0
  else
    f_Mdl_ask_b297 l0 l1 l5 l9 l10 l0
def f_Mdl_ask_b231 (k231 : Nat → Int32 → Int32 → Int32 → Int32 → xM Int32) (l0 : Nat) (l1 : Int32) (l5 : Int32) (l9 : Int32) (l10 : Int32) : xM Int32 :=
  gI l0 9 1 fun v1 =>
  if v1 ≤ l10 then
    f_Mdl_ask_b269 l0 l1 l5 l9 l10
  else
    gA l0 9 23 fun v2 =>
    lI v2 l1 fun v3 =>
    gI l0 9 1 fun v4 =>
    rI (v3 + l10) v4 fun v5 =>
    xv l0 9 <| xb (f_Mdl_may l0 v5 l9) fun v6 =>
    if v6 = 0 then
      k231 l0 l1 l5 l9 (l10 + 1)
    else
      f_Mdl_ask_b269 l0 l1 l5 l9 l10
def f_Mdl_ask_h231  : Nat → Nat → Int32 → Int32 → Int32 → Int32 → xM Int32
  | 0, _, _, _, _, _ => xst
  | n + 1, l0, l1, l5, l9, l10 => f_Mdl_ask_b231 (f_Mdl_ask_h231 n) l0 l1 l5 l9 l10
def f_Mdl_ask_b119 (k119 : Nat → Int32 → Int64 → Int32 → Int32 → Int32 → Int32 → Int32 → Int32 → xM Int32) (l0 : Nat) (l1 : Int32) (l2 : Int64) (l4 : Int32) (l5 : Int32) (l6 : Int32) (l7 : Int32) (l9 : Int32) (l10 : Int32) : xM Int32 :=
  if (3 : Int32) ≤ l10 then
    gA l0 9 30 fun v1 =>
    sI v1 l9 l4 <|
    gA l0 9 31 fun v2 =>
    sI v2 l9 l5 <|
    gA l0 9 32 fun v3 =>
    gI l0 9 3 fun v4 =>
    sI v3 l9 v4 <|
    gA l0 9 33 fun v5 =>
    sI v5 l9 l6 <|
    gA l0 9 34 fun v6 =>
    sI v6 l9 l7 <|
    gA l0 9 35 fun v7 =>
    sI v7 l9 (-1) <|
    gA l0 9 36 fun v8 =>
    sJ v8 l9 0 <|
    gA l0 9 37 fun v9 =>
    sJ v9 l9 0 <|
    gA l0 9 38 fun v10 =>
    sI v10 l9 (-1) <|
    f_Mdl_ask_h231 1000 l0 l1 l5 l9 0
  else
    gA l0 9 29 fun v11 =>
    xb (f_Mdl_position l2 l10) fun v12 =>
    sI v11 ((3 * l9) + l10) v12 <|
    k119 l0 l1 l2 l4 l5 l6 l7 l9 (l10 + 1)
def f_Mdl_ask_h119  : Nat → Nat → Int32 → Int64 → Int32 → Int32 → Int32 → Int32 → Int32 → Int32 → xM Int32
  | 0, _, _, _, _, _, _, _, _, _ => xst
  | n + 1, l0, l1, l2, l4, l5, l6, l7, l9, l10 => f_Mdl_ask_b119 (f_Mdl_ask_h119 n) l0 l1 l2 l4 l5 l6 l7 l9 l10
def f_Mdl_ask_b90  (l0 : Nat) (l1 : Int32) (l2 : Int64) (l4 : Int32) (l5 : Int32) (l6 : Int32) (l7 : Int32) (t0 : Int32) (t1 : Nat) : xM Int32 :=
  pV t1 9 2 (.int t0) <|
  gI l0 9 2 fun v1 =>
  if v1 ≤ 0 then
    gI l0 9 26 fun v2 =>
    gA l0 9 28 fun v3 =>
    sI v3 v2 l1 <|
    f_Mdl_ask_h119 1000 l0 l1 l2 l4 l5 l6 l7 v2 0
  else
    xr 0
def f_Mdl_ask_b62  (l0 : Nat) (l1 : Int32) (l2 : Int64) (l4 : Int32) (l5 : Int32) (l6 : Int32) (l7 : Int32) (t0 : Nat) : xM Int32 :=
  f_Mdl_ask_b90 l0 l1 l2 l4 l5 l6 l7 1 t0
def f_Mdl_ask_b41  (l0 : Nat) (l1 : Int32) (l2 : Int64) (l4 : Int32) (l5 : Int32) (l6 : Int32) (l7 : Int32) (t0 : Int32) : xM Int32 :=
  xb (f_Mdl_isSession l1) fun v1 =>
  if v1 = 0 then
    f_Mdl_ask_b62 l0 l1 l2 l4 l5 l6 l7 l0
  else
    xv l0 9 <| xb (f_Mdl_isQuestion l0 l6 l7) fun v2 =>
    if v2 = 0 then
      f_Mdl_ask_b62 l0 l1 l2 l4 l5 l6 l7 l0
    else
      if t0 = 0 then
        f_Mdl_ask_b90 l0 l1 l2 l4 l5 l6 l7 2 l0
      else
        gI l0 9 26 fun v3 =>
        if v3 = 500 then
          f_Mdl_ask_b90 l0 l1 l2 l4 l5 l6 l7 3 l0
        else
          f_Mdl_ask_b90 l0 l1 l2 l4 l5 l6 l7 0 l0
def f_Mdl_ask_b40  (l0 : Nat) (l1 : Int32) (l2 : Int64) (l4 : Int32) (l5 : Int32) (l6 : Int32) (l7 : Int32) : xM Int32 :=
  f_Mdl_ask_b41 l0 l1 l2 l4 l5 l6 l7 0
def f_Mdl_ask  (l0 : Nat) (l1 : Int32) (l2 : Int64) (l4 : Int32) (l5 : Int32) (l6 : Int32) (l7 : Int32) : xM Int32 :=
  xv l0 9 <| xb (f_Mdl_isToken l0 l2) fun v1 =>
  if v1 = 0 then
    f_Mdl_ask_b40 l0 l1 l2 l4 l5 l6 l7
  else
    xb (f_Mdl_in l4.toInt64 (-1) 400) fun v2 =>
    if v2 = 0 then
      f_Mdl_ask_b40 l0 l1 l2 l4 l5 l6 l7
    else
      xb (f_Mdl_in l5.toInt64 0 1000) fun v3 =>
      if v3 = 0 then
        f_Mdl_ask_b40 l0 l1 l2 l4 l5 l6 l7
      else
        f_Mdl_ask_b41 l0 l1 l2 l4 l5 l6 l7 1
/-! ReadSideModel.read(II)J -/
def f_Mdl_read_b34  (l0 : Nat) (l1 : Int32) (l2 : Int32) (t0 : Int32) (t1 : Nat) : xM Int64 :=
  pV t1 9 2 (.int t0) <|
  gI l0 9 2 fun v1 =>
  if v1 ≤ 0 then
    if l2 = 0 then
      gA l0 9 27 fun v2 =>
      lI v2 l1 fun v3 =>
      xr v3.toInt64
    else
    if l2 = 1 then
      gA l0 9 35 fun v4 =>
      lI v4 l1 fun v5 =>
      xr v5.toInt64
    else
    if l2 = 2 then
      gA l0 9 36 fun v6 =>
      lJ v6 l1 fun v7 =>
      xr v7
    else
    if l2 = 3 then
      gA l0 9 37 fun v8 =>
      lJ v8 l1 fun v9 =>
      xr v9
    else
    if l2 = 4 then
      gA l0 9 38 fun v10 =>
      lI v10 l1 fun v11 =>
      xr v11.toInt64
    else
      gA l0 9 28 fun v12 =>
      lI v12 l1 fun v13 =>
      xr v13.toInt64
  else
    xr 0
def f_Mdl_read_b33  (l0 : Nat) (l1 : Int32) (l2 : Int32) (t0 : Nat) : xM Int64 :=
  f_Mdl_read_b34 l0 l1 l2 1 t0
def f_Mdl_read  (l0 : Nat) (l1 : Int32) (l2 : Int32) : xM Int64 :=
  gI l0 9 26 fun v1 =>
  xb (f_Mdl_in l1.toInt64 0 ((v1 - 1).toInt64)) fun v2 =>
  if v2 = 0 then
    f_Mdl_read_b33 l0 l1 l2 l0
  else
    xb (f_Mdl_in l2.toInt64 0 5) fun v3 =>
    if v3 = 0 then
      f_Mdl_read_b33 l0 l1 l2 l0
    else
      f_Mdl_read_b34 l0 l1 l2 0 l0
/-! ReadSideModel.value(III)J -/
def f_Mdl_value_b44  (t0 : Int64) : xM Int64 :=
  xr t0
def f_Mdl_value_b23  (l0 : Nat) (l1 : Int32) (l2 : Int32) (l3 : Int32) (t0 : Int32) (t1 : Nat) : xM Int64 :=
  pV t1 9 2 (.int t0) <|
  gI l0 9 2 fun v1 =>
  if v1 ≤ 0 then
    xv l0 9 <| xb (f_Mdl_tell l0 l1 l2 l3) fun v2 =>
    f_Mdl_value_b44 v2
  else
    f_Mdl_value_b44 0
def f_Mdl_value_b22  (l0 : Nat) (l1 : Int32) (l2 : Int32) (l3 : Int32) (t0 : Nat) : xM Int64 :=
  f_Mdl_value_b23 l0 l1 l2 l3 1 t0
def f_Mdl_value  (l0 : Nat) (l1 : Int32) (l2 : Int32) (l3 : Int32) : xM Int64 :=
  xv l0 9 <| xb (f_Mdl_isReplica l0 l1) fun v1 =>
  if v1 = 0 then
    f_Mdl_value_b22 l0 l1 l2 l3 l0
  else
    xv l0 9 <| xb (f_Mdl_isQuestion l0 l2 l3) fun v2 =>
    if v2 = 0 then
      f_Mdl_value_b22 l0 l1 l2 l3 l0
    else
      f_Mdl_value_b23 l0 l1 l2 l3 0 l0
/-! ReadSideModel.at(II)I -/
def f_Mdl_at_b46  (t0 : Int32) : xM Int32 :=
  xr t0
def f_Mdl_at_b22  (l0 : Nat) (l1 : Int32) (l2 : Int32) (t0 : Int32) (t1 : Nat) : xM Int32 :=
  pV t1 9 2 (.int t0) <|
  gI l0 9 2 fun v1 =>
  if v1 ≤ 0 then
    gA l0 9 18 fun v2 =>
    lI v2 ((3 * l1) + l2) fun v3 =>
    f_Mdl_at_b46 v3
  else
    f_Mdl_at_b46 0
def f_Mdl_at_b21  (l0 : Nat) (l1 : Int32) (l2 : Int32) (t0 : Nat) : xM Int32 :=
  f_Mdl_at_b22 l0 l1 l2 1 t0
def f_Mdl_at  (l0 : Nat) (l1 : Int32) (l2 : Int32) : xM Int32 :=
  xv l0 9 <| xb (f_Mdl_isReplica l0 l1) fun v1 =>
  if v1 = 0 then
    f_Mdl_at_b21 l0 l1 l2 l0
  else
    xv l0 9 <| xb (f_Mdl_isPart l0 l2) fun v2 =>
    if v2 = 0 then
      f_Mdl_at_b21 l0 l1 l2 l0
    else
      f_Mdl_at_b22 l0 l1 l2 0 l0
/-! ReadSideModel.kept(II)I -/
def f_Mdl_kept_b48  (t0 : Int32) : xM Int32 :=
  xr t0
def f_Mdl_kept_b22  (l0 : Nat) (l1 : Int32) (l2 : Int32) (t0 : Int32) (t1 : Nat) : xM Int32 :=
  pV t1 9 2 (.int t0) <|
  gI l0 9 2 fun v1 =>
  if v1 ≤ 0 then
    gA l0 9 18 fun v2 =>
    lI v2 ((3 * (4 + l1)) + l2) fun v3 =>
    f_Mdl_kept_b48 v3
  else
    f_Mdl_kept_b48 0
def f_Mdl_kept_b21  (l0 : Nat) (l1 : Int32) (l2 : Int32) (t0 : Nat) : xM Int32 :=
  f_Mdl_kept_b22 l0 l1 l2 1 t0
def f_Mdl_kept  (l0 : Nat) (l1 : Int32) (l2 : Int32) : xM Int32 :=
  xv l0 9 <| xb (f_Mdl_isReplica l0 l1) fun v1 =>
  if v1 = 0 then
    f_Mdl_kept_b21 l0 l1 l2 l0
  else
    xv l0 9 <| xb (f_Mdl_isPart l0 l2) fun v2 =>
    if v2 = 0 then
      f_Mdl_kept_b21 l0 l1 l2 l0
    else
      f_Mdl_kept_b22 l0 l1 l2 0 l0
/-! ReadSideModel.log(II)I -/
def f_Mdl_log_b57  (t0 : Int32) : xM Int32 :=
  xr t0
def f_Mdl_log_b24  (l0 : Nat) (l1 : Int32) (l2 : Int32) (t0 : Int32) (t1 : Nat) : xM Int32 :=
  pV t1 9 2 (.int t0) <|
  gI l0 9 2 fun v1 =>
  if v1 ≤ 0 then
    if l2 = 0 then
      gA l0 9 4 fun v4 =>
      lI v4 l1 fun v5 =>
      f_Mdl_log_b57 v5
    else
      gA l0 9 5 fun v2 =>
      lI v2 l1 fun v3 =>
      f_Mdl_log_b57 v3
  else
    f_Mdl_log_b57 0
def f_Mdl_log_b23  (l0 : Nat) (l1 : Int32) (l2 : Int32) (t0 : Nat) : xM Int32 :=
  f_Mdl_log_b24 l0 l1 l2 1 t0
def f_Mdl_log  (l0 : Nat) (l1 : Int32) (l2 : Int32) : xM Int32 :=
  xv l0 9 <| xb (f_Mdl_isPart l0 l1) fun v1 =>
  if v1 = 0 then
    f_Mdl_log_b23 l0 l1 l2 l0
  else
    xb (f_Mdl_in l2.toInt64 0 1) fun v2 =>
    if v2 = 0 then
      f_Mdl_log_b23 l0 l1 l2 l0
    else
      f_Mdl_log_b24 l0 l1 l2 0 l0
/-! ReadSideModel.logged(III)I -/
def f_Mdl_logged_b46  (l0 : Nat) (l1 : Int32) (l2 : Int32) (l3 : Int32) (t0 : Int32) (t1 : Nat) : xM Int32 :=
  pV t1 9 2 (.int t0) <|
  gI l0 9 2 fun v1 =>
  if v1 ≤ 0 then
    if l3 = 0 then
      gA l0 9 6 fun v2 =>
      lI v2 ((401 * l1) + l2) fun v3 =>
      xr v3
    else
    if l3 = 1 then
      gA l0 9 7 fun v4 =>
      lI v4 ((401 * l1) + l2) fun v5 =>
      xr v5
    else
    if l3 = 2 then
      gA l0 9 8 fun v6 =>
      lI v6 ((401 * l1) + l2) fun v7 =>
      xr v7
    else
    if l3 = 3 then
      gA l0 9 9 fun v8 =>
      lI v8 ((401 * l1) + l2) fun v9 =>
      xr v9
    else
      gA l0 9 10 fun v10 =>
      lI v10 (((3 * ((401 * l1) + l2)) + l3) - 4) fun v11 =>
      xr v11
  else
    xr 0
def f_Mdl_logged_b45  (l0 : Nat) (l1 : Int32) (l2 : Int32) (l3 : Int32) (t0 : Nat) : xM Int32 :=
  f_Mdl_logged_b46 l0 l1 l2 l3 1 t0
def f_Mdl_logged  (l0 : Nat) (l1 : Int32) (l2 : Int32) (l3 : Int32) : xM Int32 :=
  xv l0 9 <| xb (f_Mdl_isPart l0 l1) fun v1 =>
  if v1 = 0 then
    f_Mdl_logged_b45 l0 l1 l2 l3 l0
  else
    xb (f_Mdl_in l3.toInt64 0 6) fun v2 =>
    if v2 = 0 then
      f_Mdl_logged_b45 l0 l1 l2 l3 l0
    else
      gA l0 9 5 fun v3 =>
      lI v3 l1 fun v4 =>
      if l2 ≤ v4 then
        f_Mdl_logged_b45 l0 l1 l2 l3 l0
      else
        gA l0 9 4 fun v5 =>
        lI v5 l1 fun v6 =>
        if v6 < l2 then
          f_Mdl_logged_b45 l0 l1 l2 l3 l0
        else
          f_Mdl_logged_b46 l0 l1 l2 l3 0 l0
/-! ReadSideModel.session(III)I -/
def f_Mdl_session_b72  (t0 : Int32) : xM Int32 :=
  xr t0
def f_Mdl_session_b31  (l0 : Nat) (l1 : Int32) (l2 : Int32) (l3 : Int32) (t0 : Int32) (t1 : Nat) : xM Int32 :=
  pV t1 9 2 (.int t0) <|
  gI l0 9 2 fun v1 =>
  if v1 ≤ 0 then
    if l2 = 0 then
      gA l0 9 24 fun v4 =>
      lI v4 ((3 * l1) + l3) fun v5 =>
      f_Mdl_session_b72 v5
    else
      gA l0 9 25 fun v2 =>
      lI v2 ((3 * l1) + l3) fun v3 =>
      f_Mdl_session_b72 v3
  else
    f_Mdl_session_b72 0
def f_Mdl_session_b30  (l0 : Nat) (l1 : Int32) (l2 : Int32) (l3 : Int32) (t0 : Nat) : xM Int32 :=
  f_Mdl_session_b31 l0 l1 l2 l3 1 t0
def f_Mdl_session  (l0 : Nat) (l1 : Int32) (l2 : Int32) (l3 : Int32) : xM Int32 :=
  xb (f_Mdl_isSession l1) fun v1 =>
  if v1 = 0 then
    f_Mdl_session_b30 l0 l1 l2 l3 l0
  else
    xb (f_Mdl_in l2.toInt64 0 1) fun v2 =>
    if v2 = 0 then
      f_Mdl_session_b30 l0 l1 l2 l3 l0
    else
      xv l0 9 <| xb (f_Mdl_isPart l0 l3) fun v3 =>
      if v3 = 0 then
        f_Mdl_session_b30 l0 l1 l2 l3 l0
      else
        f_Mdl_session_b31 l0 l1 l2 l3 0 l0
/-! ReadSideModel.told(JI)I -/
def f_Mdl_told_b45  (t0 : Int32) : xM Int32 :=
  xr t0
def f_Mdl_told_b26  (l0 : Nat) (l1 : Int64) (l3 : Int32) (t0 : Int32) (t1 : Nat) : xM Int32 :=
  pV t1 9 2 (.int t0) <|
  gI l0 9 2 fun v1 =>
  if v1 ≤ 0 then
    xb (f_Mdl_position l1 l3) fun v2 =>
    f_Mdl_told_b45 v2
  else
    f_Mdl_told_b45 0
def f_Mdl_told  (l0 : Nat) (l1 : Int64) (l3 : Int32) : xM Int32 :=
  xv l0 9 <| xb (f_Mdl_isPart l0 l3) fun v1 =>
  if v1 = 0 then
    f_Mdl_told_b26 l0 l1 l3 1 l0
  else
    xv l0 9 <| xb (f_Mdl_isToken l0 l1) fun v2 =>
    if v2 = 0 then
      f_Mdl_told_b26 l0 l1 l3 2 l0
    else
      f_Mdl_told_b26 l0 l1 l3 0 l0
/-! ReadSideModel.count(I)I -/
def f_Mdl_count_b85 (k59 : Nat → Int32 → Int32 → Int32 → xM Int32) (l0 : Nat) (l1 : Int32) (l3 : Int32) (t0 : Int32) (t1 : Int32) : xM Int32 :=
  k59 l0 l1 (t1 + t0) (l3 + 1)
def f_Mdl_count_b59 (k59 : Nat → Int32 → Int32 → Int32 → xM Int32) (l0 : Nat) (l1 : Int32) (l2 : Int32) (l3 : Int32) : xM Int32 :=
  gI l0 9 26 fun v1 =>
  if v1 ≤ l3 then
    xr l2
  else
    gA l0 9 27 fun v2 =>
    lI v2 l3 fun v3 =>
    if v3 = (l1 - 1) then
      f_Mdl_count_b85 k59 l0 l1 l3 1 l2
    else
      f_Mdl_count_b85 k59 l0 l1 l3 0 l2
def f_Mdl_count_h59  : Nat → Nat → Int32 → Int32 → Int32 → xM Int32
  | 0, _, _, _, _ => xst
  | n + 1, l0, l1, l2, l3 => f_Mdl_count_b59 (f_Mdl_count_h59 n) l0 l1 l2 l3
def f_Mdl_count_b54  (t0 : Int32) : xM Int32 :=
  xr t0
def f_Mdl_count_b39  (l0 : Nat) (l1 : Int32) : xM Int32 :=
  if l1 = 0 then
    gI l0 9 26 fun v2 =>
    f_Mdl_count_b54 v2
  else
    gI l0 9 3 fun v1 =>
    f_Mdl_count_b54 v1
def f_Mdl_count_b18  (l0 : Nat) (l1 : Int32) (t0 : Int32) (t1 : Nat) : xM Int32 :=
  pV t1 9 2 (.int t0) <|
  gI l0 9 2 fun v1 =>
  if v1 ≤ 0 then
    if l1 = 0 then
      f_Mdl_count_b39 l0 l1
    else
      if l1 = 4 then
        f_Mdl_count_b39 l0 l1
      else
        f_Mdl_count_h59 1000 l0 l1 0 0
  else
    xr 0
def f_Mdl_count  (l0 : Nat) (l1 : Int32) : xM Int32 :=
  xb (f_Mdl_in l1.toInt64 0 4) fun v1 =>
  if v1 = 0 then
    f_Mdl_count_b18 l0 l1 1 l0
  else
    f_Mdl_count_b18 l0 l1 0 l0
