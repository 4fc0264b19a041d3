theorem yy_trivial : True := trivial
